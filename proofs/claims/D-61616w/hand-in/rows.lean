section
-- ===== PART A: goes FIRST, ahead of the names: the tables' words, and 'selects' of the private methods out of them =====
/-- a private method of a class that the tables say can be made, by its rows of tables_1 -/
def lw_okq (q : MethodName × Nat) : Prop := (q.1.cls ≠ "java/lang/invoke/MethodHandle" ∧ q.1.cls ≠ "java/lang/invoke/VarHandle") ∧ Cond.instantiable q.1.cls q.2 ∈ tables_1 ∧ Cond.privateMethod q.1 ∈ tables_1 ∧ Cond.instanceMethod q.1 ∈ tables_1
set_option maxRecDepth 100000
theorem lw_t1 {w : Cond} (h : w ∈ tables_1_1) : w ∈ tables_1 := List.mem_append_left _ h
theorem lw_t2 {w : Cond} (h : w ∈ tables_1_2) : w ∈ tables_1 := List.mem_append_right _ h
theorem lw_p0 : lw_okq (⟨"PersistentGraph", "isHandle", "(I)Z"⟩, 17) := ⟨⟨by decide +kernel, by decide +kernel⟩, lw_t1 (List.mem_of_getElem? (i := 4) rfl), lw_t1 (List.mem_of_getElem? (i := 70) rfl), lw_t1 (List.mem_of_getElem? (i := 71) rfl)⟩
theorem lw_p1 : lw_okq (⟨"PersistentGraph", "usedPlaces", "()I"⟩, 17) := ⟨⟨by decide +kernel, by decide +kernel⟩, lw_t1 (List.mem_of_getElem? (i := 4) rfl), lw_t1 (List.mem_of_getElem? (i := 74) rfl), lw_t1 (List.mem_of_getElem? (i := 75) rfl)⟩
theorem lw_p2 : lw_okq (⟨"PersistentGraph", "closure", "(I)I"⟩, 17) := ⟨⟨by decide +kernel, by decide +kernel⟩, lw_t1 (List.mem_of_getElem? (i := 4) rfl), lw_t1 (List.mem_of_getElem? (i := 78) rfl), lw_t1 (List.mem_of_getElem? (i := 79) rfl)⟩
theorem lw_p3 : lw_okq (⟨"PersistentGraph", "linkOf", "(II)I"⟩, 17) := ⟨⟨by decide +kernel, by decide +kernel⟩, lw_t1 (List.mem_of_getElem? (i := 4) rfl), lw_t1 (List.mem_of_getElem? (i := 82) rfl), lw_t1 (List.mem_of_getElem? (i := 83) rfl)⟩
theorem lw_p4 : lw_okq (⟨"PersistentGraph", "bitsIn", "(I)I"⟩, 17) := ⟨⟨by decide +kernel, by decide +kernel⟩, lw_t1 (List.mem_of_getElem? (i := 4) rfl), lw_t1 (List.mem_of_getElem? (i := 86) rfl), lw_t1 (List.mem_of_getElem? (i := 87) rfl)⟩
theorem lw_p5 : lw_okq (⟨"PersistentGraph", "freePlace", "(I)I"⟩, 17) := ⟨⟨by decide +kernel, by decide +kernel⟩, lw_t1 (List.mem_of_getElem? (i := 4) rfl), lw_t1 (List.mem_of_getElem? (i := 90) rfl), lw_t1 (List.mem_of_getElem? (i := 91) rfl)⟩
theorem lw_p6 : lw_okq (⟨"PersistentGraph", "bringIn", "(I)V"⟩, 17) := ⟨⟨by decide +kernel, by decide +kernel⟩, lw_t1 (List.mem_of_getElem? (i := 4) rfl), lw_t1 (List.mem_of_getElem? (i := 106) rfl), lw_t1 (List.mem_of_getElem? (i := 107) rfl)⟩
theorem lw_p7 : lw_okq (⟨"PersistentGraph", "changedPlaces", "()I"⟩, 17) := ⟨⟨by decide +kernel, by decide +kernel⟩, lw_t1 (List.mem_of_getElem? (i := 4) rfl), lw_t1 (List.mem_of_getElem? (i := 134) rfl), lw_t1 (List.mem_of_getElem? (i := 135) rfl)⟩
theorem lw_p8 : lw_okq (⟨"PersistentGraph", "differs", "(I)Z"⟩, 17) := ⟨⟨by decide +kernel, by decide +kernel⟩, lw_t1 (List.mem_of_getElem? (i := 4) rfl), lw_t1 (List.mem_of_getElem? (i := 138) rfl), lw_t1 (List.mem_of_getElem? (i := 139) rfl)⟩
theorem lw_p9 : lw_okq (⟨"PersistentGraph", "writeLog", "(II)V"⟩, 17) := ⟨⟨by decide +kernel, by decide +kernel⟩, lw_t1 (List.mem_of_getElem? (i := 4) rfl), lw_t1 (List.mem_of_getElem? (i := 142) rfl), lw_t1 (List.mem_of_getElem? (i := 143) rfl)⟩
theorem lw_p10 : lw_okq (⟨"PersistentGraph", "writeMark", "()V"⟩, 17) := ⟨⟨by decide +kernel, by decide +kernel⟩, lw_t1 (List.mem_of_getElem? (i := 4) rfl), lw_t1 (List.mem_of_getElem? (i := 146) rfl), lw_t1 (List.mem_of_getElem? (i := 147) rfl)⟩
theorem lw_p11 : lw_okq (⟨"PersistentGraph", "moveData", "(I)V"⟩, 17) := ⟨⟨by decide +kernel, by decide +kernel⟩, lw_t1 (List.mem_of_getElem? (i := 4) rfl), lw_t1 (List.mem_of_getElem? (i := 150) rfl), lw_t1 (List.mem_of_getElem? (i := 151) rfl)⟩
theorem lw_p12 : lw_okq (⟨"PersistentGraph", "restartProgram", "()V"⟩, 17) := ⟨⟨by decide +kernel, by decide +kernel⟩, lw_t1 (List.mem_of_getElem? (i := 4) rfl), lw_t1 (List.mem_of_getElem? (i := 158) rfl), lw_t1 (List.mem_of_getElem? (i := 159) rfl)⟩
theorem lw_p13 : lw_okq (⟨"PersistentGraph", "recover", "()V"⟩, 17) := ⟨⟨by decide +kernel, by decide +kernel⟩, lw_t1 (List.mem_of_getElem? (i := 4) rfl), lw_t1 (List.mem_of_getElem? (i := 166) rfl), lw_t1 (List.mem_of_getElem? (i := 167) rfl)⟩
theorem lw_p14 : lw_okq (⟨"PersistentGraphModel", "forget", "()V"⟩, 7) := ⟨⟨by decide +kernel, by decide +kernel⟩, lw_t1 (List.mem_of_getElem? (i := 174) rfl), lw_t1 (List.mem_of_getElem? (i := 180) rfl), lw_t1 (List.mem_of_getElem? (i := 181) rfl)⟩
theorem lw_p15 : lw_okq (⟨"PersistentGraphModel", "isHandle", "(I)Z"⟩, 7) := ⟨⟨by decide +kernel, by decide +kernel⟩, lw_t1 (List.mem_of_getElem? (i := 174) rfl), lw_t1 (List.mem_of_getElem? (i := 210) rfl), lw_t1 (List.mem_of_getElem? (i := 211) rfl)⟩
def lw_privs_1 : List (MethodName × Nat) := [(⟨"PersistentGraph", "isHandle", "(I)Z"⟩, 17), (⟨"PersistentGraph", "usedPlaces", "()I"⟩, 17), (⟨"PersistentGraph", "closure", "(I)I"⟩, 17), (⟨"PersistentGraph", "linkOf", "(II)I"⟩, 17), (⟨"PersistentGraph", "bitsIn", "(I)I"⟩, 17), (⟨"PersistentGraph", "freePlace", "(I)I"⟩, 17), (⟨"PersistentGraph", "bringIn", "(I)V"⟩, 17), (⟨"PersistentGraph", "changedPlaces", "()I"⟩, 17), (⟨"PersistentGraph", "differs", "(I)Z"⟩, 17), (⟨"PersistentGraph", "writeLog", "(II)V"⟩, 17), (⟨"PersistentGraph", "writeMark", "()V"⟩, 17), (⟨"PersistentGraph", "moveData", "(I)V"⟩, 17), (⟨"PersistentGraph", "restartProgram", "()V"⟩, 17), (⟨"PersistentGraph", "recover", "()V"⟩, 17), (⟨"PersistentGraphModel", "forget", "()V"⟩, 7), (⟨"PersistentGraphModel", "isHandle", "(I)Z"⟩, 7)]
theorem lw_r1 : ∀ q ∈ lw_privs_1, lw_okq q := List.forall_mem_cons.mpr ⟨lw_p0, List.forall_mem_cons.mpr ⟨lw_p1, List.forall_mem_cons.mpr ⟨lw_p2, List.forall_mem_cons.mpr ⟨lw_p3, List.forall_mem_cons.mpr ⟨lw_p4, List.forall_mem_cons.mpr ⟨lw_p5, List.forall_mem_cons.mpr ⟨lw_p6, List.forall_mem_cons.mpr ⟨lw_p7, List.forall_mem_cons.mpr ⟨lw_p8, List.forall_mem_cons.mpr ⟨lw_p9, List.forall_mem_cons.mpr ⟨lw_p10, List.forall_mem_cons.mpr ⟨lw_p11, List.forall_mem_cons.mpr ⟨lw_p12, List.forall_mem_cons.mpr ⟨lw_p13, List.forall_mem_cons.mpr ⟨lw_p14, List.forall_mem_cons.mpr ⟨lw_p15, fun _ h => absurd h List.not_mem_nil⟩⟩⟩⟩⟩⟩⟩⟩⟩⟩⟩⟩⟩⟩⟩⟩
theorem lw_p16 : lw_okq (⟨"PersistentGraphModel", "used", "()I"⟩, 7) := ⟨⟨by decide +kernel, by decide +kernel⟩, lw_t1 (List.mem_of_getElem? (i := 174) rfl), lw_t1 (List.mem_of_getElem? (i := 214) rfl), lw_t1 (List.mem_of_getElem? (i := 215) rfl)⟩
theorem lw_p17 : lw_okq (⟨"PersistentGraphModel", "bit", "(I)I"⟩, 7) := ⟨⟨by decide +kernel, by decide +kernel⟩, lw_t1 (List.mem_of_getElem? (i := 174) rfl), lw_t1 (List.mem_of_getElem? (i := 218) rfl), lw_t1 (List.mem_of_getElem? (i := 219) rfl)⟩
theorem lw_p18 : lw_okq (⟨"PersistentGraphModel", "spread", "(IZ)I"⟩, 7) := ⟨⟨by decide +kernel, by decide +kernel⟩, lw_t1 (List.mem_of_getElem? (i := 174) rfl), lw_t1 (List.mem_of_getElem? (i := 222) rfl), lw_t1 (List.mem_of_getElem? (i := 223) rfl)⟩
theorem lw_p19 : lw_okq (⟨"PersistentGraphModel", "in", "(II)Z"⟩, 7) := ⟨⟨by decide +kernel, by decide +kernel⟩, lw_t1 (List.mem_of_getElem? (i := 174) rfl), lw_t1 (List.mem_of_getElem? (i := 226) rfl), lw_t1 (List.mem_of_getElem? (i := 227) rfl)⟩
theorem lw_p20 : lw_okq (⟨"PersistentGraphModel", "committed", "()I"⟩, 7) := ⟨⟨by decide +kernel, by decide +kernel⟩, lw_t1 (List.mem_of_getElem? (i := 174) rfl), lw_t1 (List.mem_of_getElem? (i := 230) rfl), lw_t1 (List.mem_of_getElem? (i := 231) rfl)⟩
theorem lw_p21 : lw_okq (⟨"PersistentGraphModel", "leads", "(I)I"⟩, 7) := ⟨⟨by decide +kernel, by decide +kernel⟩, lw_t1 (List.mem_of_getElem? (i := 174) rfl), lw_t1 (List.mem_of_getElem? (i := 238) rfl), lw_t1 (List.mem_of_getElem? (i := 239) rfl)⟩
theorem lw_p22 : lw_okq (⟨"PersistentGraphModel", "changed", "()I"⟩, 7) := ⟨⟨by decide +kernel, by decide +kernel⟩, lw_t1 (List.mem_of_getElem? (i := 174) rfl), lw_t2 (List.mem_of_getElem? (i := 34) rfl), lw_t2 (List.mem_of_getElem? (i := 35) rfl)⟩
theorem lw_p23 : lw_okq (⟨"PersistentGraphModel", "reached", "()I"⟩, 7) := ⟨⟨by decide +kernel, by decide +kernel⟩, lw_t1 (List.mem_of_getElem? (i := 174) rfl), lw_t2 (List.mem_of_getElem? (i := 38) rfl), lw_t2 (List.mem_of_getElem? (i := 39) rfl)⟩
theorem lw_p24 : lw_okq (⟨"PersistentGraphModel", "sizeOf", "(I)I"⟩, 7) := ⟨⟨by decide +kernel, by decide +kernel⟩, lw_t1 (List.mem_of_getElem? (i := 174) rfl), lw_t2 (List.mem_of_getElem? (i := 46) rfl), lw_t2 (List.mem_of_getElem? (i := 47) rfl)⟩
def lw_privs_2 : List (MethodName × Nat) := [(⟨"PersistentGraphModel", "used", "()I"⟩, 7), (⟨"PersistentGraphModel", "bit", "(I)I"⟩, 7), (⟨"PersistentGraphModel", "spread", "(IZ)I"⟩, 7), (⟨"PersistentGraphModel", "in", "(II)Z"⟩, 7), (⟨"PersistentGraphModel", "committed", "()I"⟩, 7), (⟨"PersistentGraphModel", "leads", "(I)I"⟩, 7), (⟨"PersistentGraphModel", "changed", "()I"⟩, 7), (⟨"PersistentGraphModel", "reached", "()I"⟩, 7), (⟨"PersistentGraphModel", "sizeOf", "(I)I"⟩, 7)]
theorem lw_r2 : ∀ q ∈ lw_privs_2, lw_okq q := List.forall_mem_cons.mpr ⟨lw_p16, List.forall_mem_cons.mpr ⟨lw_p17, List.forall_mem_cons.mpr ⟨lw_p18, List.forall_mem_cons.mpr ⟨lw_p19, List.forall_mem_cons.mpr ⟨lw_p20, List.forall_mem_cons.mpr ⟨lw_p21, List.forall_mem_cons.mpr ⟨lw_p22, List.forall_mem_cons.mpr ⟨lw_p23, List.forall_mem_cons.mpr ⟨lw_p24, fun _ h => absurd h List.not_mem_nil⟩⟩⟩⟩⟩⟩⟩⟩⟩
def lw_privs : List (MethodName × Nat) := lw_privs_1 ++ (lw_privs_2)
def lw_tbl : List Cond := k2_sels lw_privs ++ tables_1
theorem lw_privs_ok : ∀ q ∈ lw_privs, lw_okq q := by
  show ∀ q ∈ lw_privs_1 ++ (lw_privs_2), lw_okq q
  exact List.forall_mem_append.mpr ⟨lw_r1, lw_r2⟩
-- ===== ONE list of words for every method: the tables' words that hold all through a run =====
def lw_all : List Cond := lw_tbl.filter goodWord
/-- a word of the tables by its place: claim/WORDS.tsv -/
theorem lw_w {w : Cond} (i : Nat) (h : lw_tbl[i]? = some w) (g : goodWord w = true) : w ∈ lw_all := List.mem_filter.mpr ⟨List.mem_of_getElem? h, g⟩
theorem lw_all_tbl {w : Cond} (h : w ∈ lw_all) : w ∈ lw_tbl := (List.mem_filter.mp h).1
theorem lw_self : GoodIn lw_all lw_all := fun w h => ⟨h, good_of_word (List.mem_filter.mp h).2⟩
/-- a class's field words, by their places -/
theorem lw_in (ws : List Cond) (ps : List Nat) (hp : ws = ps.filterMap (fun i => lw_tbl[i]?)) (hg : ws.all goodWord = true) : ∀ w ∈ ws, w ∈ lw_all := by
  intro w h
  have h1 := List.all_eq_true.mp hg w h
  rw [hp] at h
  obtain ⟨i, -, hi⟩ := List.mem_filterMap.mp h
  exact lw_w i hi h1
/-- the words of a contract for the method y with code b, L locals, answer r -/
abbrev ws_ (y : MethodName) (b : ByteArray) (L : Nat) (r : Option FieldType) : List Cond := Cond.code y b L r :: lw_all
theorem lw_meth {y : MethodName} {b : ByteArray} {L : Nat} {r : Option FieldType} (h : Cond.code y b L r ∈ lw_all) : GoodIn lw_all (ws_ y b L r) := by
  intro w hw
  rcases List.mem_cons.mp hw with e | e
  · rw [e]
    exact lw_self _ h
  · exact lw_self _ e
theorem lw_app {a c : List Cond} (ha : ∀ w ∈ a, w ∈ lw_all) (hc : GoodIn lw_all c) : GoodIn lw_all (a ++ c) := by
  intro w hw
  rcases List.mem_append.mp hw with e | e
  · exact lw_self w (ha w e)
  · exact hc w e
/-- what a call through an object asks: cwV n hts (lw_V ..) -/
theorem lw_V {own : String} {idx : Nat} {C : String} {y : MethodName} {b : ByteArray} {L : Nat} {r : Option FieldType} (h1 : Cond.methodLink own idx y ∈ lw_all) (h2 : Cond.instanceMethod y ∈ lw_all) (h3 : Cond.selects C y y ∈ lw_all) (h4 : Cond.initialized C ∈ lw_all) (h5 : Cond.code y b L r ∈ lw_all) : GoodIn lw_all (wsV own idx C y (ws_ y b L r)) := by
  refine lw_app ?_ (lw_meth h5)
  intro w hw
  simp only [List.mem_cons, List.not_mem_nil, or_false] at hw
  rcases hw with e | e | e | e
  · rw [e]; exact h1
  · rw [e]; exact h2
  · rw [e]; exact h3
  · rw [e]; exact h4
/-- what a static call asks: va_cwS n hts (lw_S ..) -/
theorem lw_S {own : String} {idx : Nat} {y : MethodName} {b : ByteArray} {L : Nat} {r : Option FieldType} (h1 : Cond.methodLink own idx y ∈ lw_all) (h2 : Cond.static y ∈ lw_all) (h3 : Cond.initialized y.cls ∈ lw_all) (h4 : Cond.code y b L r ∈ lw_all) : GoodIn lw_all (va_wsS own idx y (ws_ y b L r)) := by
  refine lw_app ?_ (lw_meth h4)
  intro w hw
  simp only [List.mem_cons, List.not_mem_nil, or_false] at hw
  rcases hw with e | e | e
  · rw [e]; exact h1
  · rw [e]; exact h2
  · rw [e]; exact h3
/-- the words of a contract for a method WITH HANDLERS (hh: its table) -/
abbrev wsW_ (y : MethodName) (b : ByteArray) (L : Nat) (r : Option FieldType) (hh : List (Nat × Nat × Nat × Nat)) : List Cond := Cond.codeWith y b L r hh :: lw_all
theorem lw_methW {y : MethodName} {b : ByteArray} {L : Nat} {r : Option FieldType} {hh : List (Nat × Nat × Nat × Nat)} (h : Cond.codeWith y b L r hh ∈ lw_all) : GoodIn lw_all (wsW_ y b L r hh) := by
  intro w hw
  rcases List.mem_cons.mp hw with e | e
  · rw [e]
    exact lw_self _ h
  · exact lw_self _ e
/-- any list of words by their places (lw_in), good -/
theorem lw_good {ws : List Cond} (h : ∀ w ∈ ws, w ∈ lw_all) : GoodIn lw_all ws := fun w hw => lw_self w (h w hw)
/-- what a call of a method with handlers asks: vx_cwVW n hts (lw_VW ..), vx_cwSW n hts (lw_SW ..) -/
theorem lw_VW {own : String} {idx : Nat} {C : String} {y : MethodName} {b : ByteArray} {L : Nat} {r : Option FieldType} {hh : List (Nat × Nat × Nat × Nat)} (h1 : Cond.methodLink own idx y ∈ lw_all) (h2 : Cond.instanceMethod y ∈ lw_all) (h3 : Cond.selects C y y ∈ lw_all) (h4 : Cond.initialized C ∈ lw_all) (h5 : Cond.codeWith y b L r hh ∈ lw_all) : GoodIn lw_all (wsV own idx C y (wsW_ y b L r hh)) := by
  refine lw_app ?_ (lw_methW h5)
  intro w hw
  simp only [List.mem_cons, List.not_mem_nil, or_false] at hw
  rcases hw with e | e | e | e
  · rw [e]; exact h1
  · rw [e]; exact h2
  · rw [e]; exact h3
  · rw [e]; exact h4
theorem lw_SW {own : String} {idx : Nat} {y : MethodName} {b : ByteArray} {L : Nat} {r : Option FieldType} {hh : List (Nat × Nat × Nat × Nat)} (h1 : Cond.methodLink own idx y ∈ lw_all) (h2 : Cond.static y ∈ lw_all) (h3 : Cond.initialized y.cls ∈ lw_all) (h4 : Cond.codeWith y b L r hh ∈ lw_all) : GoodIn lw_all (va_wsS own idx y (wsW_ y b L r hh)) := by
  refine lw_app ?_ (lw_methW h4)
  intro w hw
  simp only [List.mem_cons, List.not_mem_nil, or_false] at hw
  rcases hw with e | e | e
  · rw [e]; exact h1
  · rw [e]; exact h2
  · rw [e]; exact h3
/-- a word by its place in its run of the tables -/
theorem lw_at {r : List Cond} (hr : ∀ w ∈ r, w ∈ lw_tbl) {w : Cond} (i : Nat) (h : r[i]? = some w) : w ∈ lw_tbl := hr w (List.mem_of_getElem? h)
theorem lw_g {w : Cond} (h : w ∈ lw_tbl) (g : goodWord w = true) : w ∈ lw_all := List.mem_filter.mpr ⟨h, g⟩
theorem lw_ms : ∀ w ∈ k2_sels lw_privs, w ∈ lw_tbl := fun w h => show w ∈ k2_sels lw_privs ++ tables_1 from List.mem_append_left _ h
theorem lw_m1 : ∀ w ∈ tables_1_1, w ∈ lw_tbl := fun w h => show w ∈ k2_sels lw_privs ++ tables_1 from List.mem_append_right (k2_sels lw_privs) (show w ∈ tables_1 from List.mem_append_left _ h)
theorem lw_m2 : ∀ w ∈ tables_1_2, w ∈ lw_tbl := fun w h => show w ∈ k2_sels lw_privs ++ tables_1 from List.mem_append_right (k2_sels lw_privs) (show w ∈ tables_1 from List.mem_append_right _ h)
theorem qs0 : (Cond.selects "PersistentGraph" ⟨"PersistentGraph", "isHandle", "(I)Z"⟩ ⟨"PersistentGraph", "isHandle", "(I)Z"⟩) ∈ lw_all := lw_g (lw_at lw_ms 0 rfl) rfl
theorem qs1 : (Cond.selects "PersistentGraph" ⟨"PersistentGraph", "usedPlaces", "()I"⟩ ⟨"PersistentGraph", "usedPlaces", "()I"⟩) ∈ lw_all := lw_g (lw_at lw_ms 1 rfl) rfl
theorem qs2 : (Cond.selects "PersistentGraph" ⟨"PersistentGraph", "closure", "(I)I"⟩ ⟨"PersistentGraph", "closure", "(I)I"⟩) ∈ lw_all := lw_g (lw_at lw_ms 2 rfl) rfl
theorem qs3 : (Cond.selects "PersistentGraph" ⟨"PersistentGraph", "linkOf", "(II)I"⟩ ⟨"PersistentGraph", "linkOf", "(II)I"⟩) ∈ lw_all := lw_g (lw_at lw_ms 3 rfl) rfl
theorem qs4 : (Cond.selects "PersistentGraph" ⟨"PersistentGraph", "bitsIn", "(I)I"⟩ ⟨"PersistentGraph", "bitsIn", "(I)I"⟩) ∈ lw_all := lw_g (lw_at lw_ms 4 rfl) rfl
theorem qs5 : (Cond.selects "PersistentGraph" ⟨"PersistentGraph", "freePlace", "(I)I"⟩ ⟨"PersistentGraph", "freePlace", "(I)I"⟩) ∈ lw_all := lw_g (lw_at lw_ms 5 rfl) rfl
theorem qs6 : (Cond.selects "PersistentGraph" ⟨"PersistentGraph", "bringIn", "(I)V"⟩ ⟨"PersistentGraph", "bringIn", "(I)V"⟩) ∈ lw_all := lw_g (lw_at lw_ms 6 rfl) rfl
theorem qs7 : (Cond.selects "PersistentGraph" ⟨"PersistentGraph", "changedPlaces", "()I"⟩ ⟨"PersistentGraph", "changedPlaces", "()I"⟩) ∈ lw_all := lw_g (lw_at lw_ms 7 rfl) rfl
theorem qs8 : (Cond.selects "PersistentGraph" ⟨"PersistentGraph", "differs", "(I)Z"⟩ ⟨"PersistentGraph", "differs", "(I)Z"⟩) ∈ lw_all := lw_g (lw_at lw_ms 8 rfl) rfl
theorem qs9 : (Cond.selects "PersistentGraph" ⟨"PersistentGraph", "writeLog", "(II)V"⟩ ⟨"PersistentGraph", "writeLog", "(II)V"⟩) ∈ lw_all := lw_g (lw_at lw_ms 9 rfl) rfl
theorem qs10 : (Cond.selects "PersistentGraph" ⟨"PersistentGraph", "writeMark", "()V"⟩ ⟨"PersistentGraph", "writeMark", "()V"⟩) ∈ lw_all := lw_g (lw_at lw_ms 10 rfl) rfl
theorem qs11 : (Cond.selects "PersistentGraph" ⟨"PersistentGraph", "moveData", "(I)V"⟩ ⟨"PersistentGraph", "moveData", "(I)V"⟩) ∈ lw_all := lw_g (lw_at lw_ms 11 rfl) rfl
theorem qs12 : (Cond.selects "PersistentGraph" ⟨"PersistentGraph", "restartProgram", "()V"⟩ ⟨"PersistentGraph", "restartProgram", "()V"⟩) ∈ lw_all := lw_g (lw_at lw_ms 12 rfl) rfl
theorem qs13 : (Cond.selects "PersistentGraph" ⟨"PersistentGraph", "recover", "()V"⟩ ⟨"PersistentGraph", "recover", "()V"⟩) ∈ lw_all := lw_g (lw_at lw_ms 13 rfl) rfl
theorem qs14 : (Cond.selects "PersistentGraphModel" ⟨"PersistentGraphModel", "forget", "()V"⟩ ⟨"PersistentGraphModel", "forget", "()V"⟩) ∈ lw_all := lw_g (lw_at lw_ms 14 rfl) rfl
theorem qs15 : (Cond.selects "PersistentGraphModel" ⟨"PersistentGraphModel", "isHandle", "(I)Z"⟩ ⟨"PersistentGraphModel", "isHandle", "(I)Z"⟩) ∈ lw_all := lw_g (lw_at lw_ms 15 rfl) rfl
theorem qs16 : (Cond.selects "PersistentGraphModel" ⟨"PersistentGraphModel", "used", "()I"⟩ ⟨"PersistentGraphModel", "used", "()I"⟩) ∈ lw_all := lw_g (lw_at lw_ms 16 rfl) rfl
theorem qs17 : (Cond.selects "PersistentGraphModel" ⟨"PersistentGraphModel", "bit", "(I)I"⟩ ⟨"PersistentGraphModel", "bit", "(I)I"⟩) ∈ lw_all := lw_g (lw_at lw_ms 17 rfl) rfl
theorem qs18 : (Cond.selects "PersistentGraphModel" ⟨"PersistentGraphModel", "spread", "(IZ)I"⟩ ⟨"PersistentGraphModel", "spread", "(IZ)I"⟩) ∈ lw_all := lw_g (lw_at lw_ms 18 rfl) rfl
theorem qs19 : (Cond.selects "PersistentGraphModel" ⟨"PersistentGraphModel", "in", "(II)Z"⟩ ⟨"PersistentGraphModel", "in", "(II)Z"⟩) ∈ lw_all := lw_g (lw_at lw_ms 19 rfl) rfl
theorem qs20 : (Cond.selects "PersistentGraphModel" ⟨"PersistentGraphModel", "committed", "()I"⟩ ⟨"PersistentGraphModel", "committed", "()I"⟩) ∈ lw_all := lw_g (lw_at lw_ms 20 rfl) rfl
theorem qs21 : (Cond.selects "PersistentGraphModel" ⟨"PersistentGraphModel", "leads", "(I)I"⟩ ⟨"PersistentGraphModel", "leads", "(I)I"⟩) ∈ lw_all := lw_g (lw_at lw_ms 21 rfl) rfl
theorem qs22 : (Cond.selects "PersistentGraphModel" ⟨"PersistentGraphModel", "changed", "()I"⟩ ⟨"PersistentGraphModel", "changed", "()I"⟩) ∈ lw_all := lw_g (lw_at lw_ms 22 rfl) rfl
theorem qs23 : (Cond.selects "PersistentGraphModel" ⟨"PersistentGraphModel", "reached", "()I"⟩ ⟨"PersistentGraphModel", "reached", "()I"⟩) ∈ lw_all := lw_g (lw_at lw_ms 23 rfl) rfl
theorem qs24 : (Cond.selects "PersistentGraphModel" ⟨"PersistentGraphModel", "sizeOf", "(I)I"⟩ ⟨"PersistentGraphModel", "sizeOf", "(I)I"⟩) ∈ lw_all := lw_g (lw_at lw_ms 24 rfl) rfl
end
section
set_option maxRecDepth 100000
/-! PersistentGraph -/
def RX0 : String := "PersistentGraph"
def TX0 : u_T := fun k => match k with
  | 0 => ("PersistentGraph", "diskValue", "[I", true)
  | 1 => ("PersistentGraph", "diskLinks", "[B", true)
  | 2 => ("PersistentGraph", "diskRoot", "I", false)
  | 3 => ("PersistentGraph", "committed", "I", false)
  | 4 => ("PersistentGraph", "logCount", "I", false)
  | 5 => ("PersistentGraph", "logPlace", "[B", true)
  | 6 => ("PersistentGraph", "logValue", "[I", true)
  | 7 => ("PersistentGraph", "logLinks", "[B", true)
  | 8 => ("PersistentGraph", "logMark", "Z", false)
  | 9 => ("PersistentGraph", "logRoot", "I", false)
  | 10 => ("PersistentGraph", "logCommitted", "I", false)
  | 11 => ("PersistentGraph", "loaded", "I", false)
  | 12 => ("PersistentGraph", "memoryValue", "[I", true)
  | 13 => ("PersistentGraph", "memoryLinks", "[B", true)
  | 14 => ("PersistentGraph", "taken", "I", false)
  | 15 => ("PersistentGraph", "root", "I", false)
  | _ => ("PersistentGraph", "handle", "[B", true)
def tyX0 : Nat → FieldType := fun k => match k with
  | 0 => .array .int
  | 1 => .array .byte
  | 2 => .int
  | 3 => .int
  | 4 => .int
  | 5 => .array .byte
  | 6 => .array .int
  | 7 => .array .byte
  | 8 => .boolean
  | 9 => .int
  | 10 => .int
  | 11 => .int
  | 12 => .array .int
  | 13 => .array .byte
  | 14 => .int
  | 15 => .int
  | _ => .array .byte
abbrev wsX00 : List Cond := u_ws RX0 TX0 17
set_option maxRecDepth 100000 in
theorem nmX0 : ∀ a, a < 17 → ∀ b, b < 17 → a ≠ b → (TX0 a).2.1 ≠ (TX0 b).2.1 := by decide +kernel
set_option maxRecDepth 100000 in
theorem tyX0_ok : ∀ k, k < 17 → parseFieldDescriptor (TX0 k).2.2.1 = some (tyX0 k) := by decide +kernel
abbrev cX0_init : ByteArray := prog_1_method_1_code
def yX0_init : MethodName := ⟨RX0, "<init>", "()V"⟩
abbrev cX0_make : ByteArray := prog_1_method_2_code
def yX0_make : MethodName := ⟨RX0, "make", "(II)I"⟩
abbrev cX0_isHandle : ByteArray := prog_1_method_15_code
def yX0_isHandle : MethodName := ⟨RX0, "isHandle", "(I)Z"⟩
abbrev cX0_usedPlaces : ByteArray := prog_1_method_20_code
def yX0_usedPlaces : MethodName := ⟨RX0, "usedPlaces", "()I"⟩
abbrev cX0_closure : ByteArray := prog_1_method_19_code
def yX0_closure : MethodName := ⟨RX0, "closure", "(I)I"⟩
abbrev cX0_linkOf : ByteArray := prog_1_method_18_code
def yX0_linkOf : MethodName := ⟨RX0, "linkOf", "(II)I"⟩
abbrev cX0_bitsIn : ByteArray := prog_1_method_16_code
def yX0_bitsIn : MethodName := ⟨RX0, "bitsIn", "(I)I"⟩
abbrev cX0_freePlace : ByteArray := prog_1_method_21_code
def yX0_freePlace : MethodName := ⟨RX0, "freePlace", "(I)I"⟩
abbrev cX0_getRoot : ByteArray := prog_1_method_3_code
def yX0_getRoot : MethodName := ⟨RX0, "getRoot", "(I)I"⟩
abbrev cX0_setRoot : ByteArray := prog_1_method_4_code
def yX0_setRoot : MethodName := ⟨RX0, "setRoot", "(I)I"⟩
abbrev cX0_follow : ByteArray := prog_1_method_5_code
def yX0_follow : MethodName := ⟨RX0, "follow", "(III)I"⟩
abbrev cX0_bringIn : ByteArray := prog_1_method_17_code
def yX0_bringIn : MethodName := ⟨RX0, "bringIn", "(I)V"⟩
abbrev cX0_link : ByteArray := prog_1_method_6_code
def yX0_link : MethodName := ⟨RX0, "link", "(III)I"⟩
abbrev cX0_drop : ByteArray := prog_1_method_7_code
def yX0_drop : MethodName := ⟨RX0, "drop", "(I)I"⟩
abbrev cX0_value : ByteArray := prog_1_method_8_code
def yX0_value : MethodName := ⟨RX0, "value", "(I)I"⟩
abbrev cX0_setValue : ByteArray := prog_1_method_9_code
def yX0_setValue : MethodName := ⟨RX0, "setValue", "(II)I"⟩
abbrev cX0_same : ByteArray := prog_1_method_10_code
def yX0_same : MethodName := ⟨RX0, "same", "(II)Z"⟩
abbrev cX0_commit : ByteArray := prog_1_method_11_code
def yX0_commit : MethodName := ⟨RX0, "commit", "()I"⟩
abbrev cX0_changedPlaces : ByteArray := prog_1_method_23_code
def yX0_changedPlaces : MethodName := ⟨RX0, "changedPlaces", "()I"⟩
abbrev cX0_differs : ByteArray := prog_1_method_22_code
def yX0_differs : MethodName := ⟨RX0, "differs", "(I)Z"⟩
abbrev cX0_writeLog : ByteArray := prog_1_method_24_code
def yX0_writeLog : MethodName := ⟨RX0, "writeLog", "(II)V"⟩
abbrev cX0_writeMark : ByteArray := prog_1_method_25_code
def yX0_writeMark : MethodName := ⟨RX0, "writeMark", "()V"⟩
abbrev cX0_moveData : ByteArray := prog_1_method_26_code
def yX0_moveData : MethodName := ⟨RX0, "moveData", "(I)V"⟩
abbrev cX0_abort : ByteArray := prog_1_method_12_code
def yX0_abort : MethodName := ⟨RX0, "abort", "()I"⟩
abbrev cX0_restartProgram : ByteArray := prog_1_method_28_code
def yX0_restartProgram : MethodName := ⟨RX0, "restartProgram", "()V"⟩
abbrev cX0_crash : ByteArray := prog_1_method_13_code
def yX0_crash : MethodName := ⟨RX0, "crash", "(I)I"⟩
abbrev cX0_recover : ByteArray := prog_1_method_27_code
def yX0_recover : MethodName := ⟨RX0, "recover", "()V"⟩
abbrev cX0_reachable : ByteArray := prog_1_method_14_code
def yX0_reachable : MethodName := ⟨RX0, "reachable", "()I"⟩
theorem q26 : (Jvm.Cond.initialized "PersistentGraph") ∈ lw_all := lw_g (lw_at lw_m1 1 rfl) rfl
theorem q29 : (Jvm.Cond.instantiable "PersistentGraph" (17 : Nat)) ∈ lw_all := lw_g (lw_at lw_m1 4 rfl) rfl
theorem q31 : (Jvm.Cond.instanceMethod ({ cls := "PersistentGraph", name := "<init>", desc := "()V" } : Jvm.MethodName)) ∈ lw_all := lw_g (lw_at lw_m1 6 rfl) rfl
theorem q32 : (Jvm.Cond.code ({ cls := "PersistentGraph", name := "<init>", desc := "()V" } : Jvm.MethodName) prog_1_method_1_code (2 : Nat) (Option.none : Option Jvm.ClassFile.FieldType)) ∈ lw_all := lw_g (lw_at lw_m1 7 rfl) rfl
theorem q33 : (Jvm.Cond.methodLink "PersistentGraph" (1 : Nat) ({ cls := "java/lang/Object", name := "<init>", desc := "()V" } : Jvm.MethodName)) ∈ lw_all := lw_g (lw_at lw_m1 8 rfl) rfl
theorem q36 : (Jvm.Cond.fieldLink "PersistentGraph" (7 : Nat) "PersistentGraph" "diskValue" "[I") ∈ lw_all := lw_g (lw_at lw_m1 11 rfl) rfl
theorem q37 : (Jvm.Cond.fieldLink "PersistentGraph" (13 : Nat) "PersistentGraph" "diskLinks" "[B") ∈ lw_all := lw_g (lw_at lw_m1 12 rfl) rfl
theorem q38 : (Jvm.Cond.fieldLink "PersistentGraph" (35 : Nat) "PersistentGraph" "diskRoot" "I") ∈ lw_all := lw_g (lw_at lw_m1 13 rfl) rfl
theorem q39 : (Jvm.Cond.fieldLink "PersistentGraph" (90 : Nat) "PersistentGraph" "committed" "I") ∈ lw_all := lw_g (lw_at lw_m1 14 rfl) rfl
theorem q40 : (Jvm.Cond.fieldLink "PersistentGraph" (80 : Nat) "PersistentGraph" "logCount" "I") ∈ lw_all := lw_g (lw_at lw_m1 15 rfl) rfl
theorem q41 : (Jvm.Cond.fieldLink "PersistentGraph" (17 : Nat) "PersistentGraph" "logPlace" "[B") ∈ lw_all := lw_g (lw_at lw_m1 16 rfl) rfl
theorem q42 : (Jvm.Cond.fieldLink "PersistentGraph" (20 : Nat) "PersistentGraph" "logValue" "[I") ∈ lw_all := lw_g (lw_at lw_m1 17 rfl) rfl
theorem q43 : (Jvm.Cond.fieldLink "PersistentGraph" (23 : Nat) "PersistentGraph" "logLinks" "[B") ∈ lw_all := lw_g (lw_at lw_m1 18 rfl) rfl
theorem q44 : (Jvm.Cond.fieldLink "PersistentGraph" (83 : Nat) "PersistentGraph" "logMark" "Z") ∈ lw_all := lw_g (lw_at lw_m1 19 rfl) rfl
theorem q45 : (Jvm.Cond.fieldLink "PersistentGraph" (106 : Nat) "PersistentGraph" "logRoot" "I") ∈ lw_all := lw_g (lw_at lw_m1 20 rfl) rfl
theorem q46 : (Jvm.Cond.fieldLink "PersistentGraph" (109 : Nat) "PersistentGraph" "logCommitted" "I") ∈ lw_all := lw_g (lw_at lw_m1 21 rfl) rfl
theorem q47 : (Jvm.Cond.fieldLink "PersistentGraph" (60 : Nat) "PersistentGraph" "loaded" "I") ∈ lw_all := lw_g (lw_at lw_m1 22 rfl) rfl
theorem q48 : (Jvm.Cond.fieldLink "PersistentGraph" (26 : Nat) "PersistentGraph" "memoryValue" "[I") ∈ lw_all := lw_g (lw_at lw_m1 23 rfl) rfl
theorem q49 : (Jvm.Cond.fieldLink "PersistentGraph" (29 : Nat) "PersistentGraph" "memoryLinks" "[B") ∈ lw_all := lw_g (lw_at lw_m1 24 rfl) rfl
theorem q50 : (Jvm.Cond.fieldLink "PersistentGraph" (57 : Nat) "PersistentGraph" "taken" "I") ∈ lw_all := lw_g (lw_at lw_m1 25 rfl) rfl
theorem q51 : (Jvm.Cond.fieldLink "PersistentGraph" (39 : Nat) "PersistentGraph" "root" "I") ∈ lw_all := lw_g (lw_at lw_m1 26 rfl) rfl
theorem q52 : (Jvm.Cond.fieldLink "PersistentGraph" (32 : Nat) "PersistentGraph" "handle" "[B") ∈ lw_all := lw_g (lw_at lw_m1 27 rfl) rfl
theorem q53 : (Jvm.Cond.laysFinal "PersistentGraph" "PersistentGraph" "diskValue" "[I") ∈ lw_all := lw_g (lw_at lw_m1 28 rfl) rfl
theorem q54 : (Jvm.Cond.soleField "PersistentGraph" "diskValue") ∈ lw_all := lw_g (lw_at lw_m1 29 rfl) rfl
theorem q55 : (Jvm.Cond.laysFinal "PersistentGraph" "PersistentGraph" "diskLinks" "[B") ∈ lw_all := lw_g (lw_at lw_m1 30 rfl) rfl
theorem q56 : (Jvm.Cond.soleField "PersistentGraph" "diskLinks") ∈ lw_all := lw_g (lw_at lw_m1 31 rfl) rfl
theorem q57 : (Jvm.Cond.lays "PersistentGraph" "PersistentGraph" "diskRoot" "I") ∈ lw_all := lw_g (lw_at lw_m1 32 rfl) rfl
theorem q58 : (Jvm.Cond.soleField "PersistentGraph" "diskRoot") ∈ lw_all := lw_g (lw_at lw_m1 33 rfl) rfl
theorem q59 : (Jvm.Cond.lays "PersistentGraph" "PersistentGraph" "committed" "I") ∈ lw_all := lw_g (lw_at lw_m1 34 rfl) rfl
theorem q60 : (Jvm.Cond.soleField "PersistentGraph" "committed") ∈ lw_all := lw_g (lw_at lw_m1 35 rfl) rfl
theorem q61 : (Jvm.Cond.lays "PersistentGraph" "PersistentGraph" "logCount" "I") ∈ lw_all := lw_g (lw_at lw_m1 36 rfl) rfl
theorem q62 : (Jvm.Cond.soleField "PersistentGraph" "logCount") ∈ lw_all := lw_g (lw_at lw_m1 37 rfl) rfl
theorem q63 : (Jvm.Cond.laysFinal "PersistentGraph" "PersistentGraph" "logPlace" "[B") ∈ lw_all := lw_g (lw_at lw_m1 38 rfl) rfl
theorem q64 : (Jvm.Cond.soleField "PersistentGraph" "logPlace") ∈ lw_all := lw_g (lw_at lw_m1 39 rfl) rfl
theorem q65 : (Jvm.Cond.laysFinal "PersistentGraph" "PersistentGraph" "logValue" "[I") ∈ lw_all := lw_g (lw_at lw_m1 40 rfl) rfl
theorem q66 : (Jvm.Cond.soleField "PersistentGraph" "logValue") ∈ lw_all := lw_g (lw_at lw_m1 41 rfl) rfl
theorem q67 : (Jvm.Cond.laysFinal "PersistentGraph" "PersistentGraph" "logLinks" "[B") ∈ lw_all := lw_g (lw_at lw_m1 42 rfl) rfl
theorem q68 : (Jvm.Cond.soleField "PersistentGraph" "logLinks") ∈ lw_all := lw_g (lw_at lw_m1 43 rfl) rfl
theorem q69 : (Jvm.Cond.lays "PersistentGraph" "PersistentGraph" "logMark" "Z") ∈ lw_all := lw_g (lw_at lw_m1 44 rfl) rfl
theorem q70 : (Jvm.Cond.soleField "PersistentGraph" "logMark") ∈ lw_all := lw_g (lw_at lw_m1 45 rfl) rfl
theorem q71 : (Jvm.Cond.lays "PersistentGraph" "PersistentGraph" "logRoot" "I") ∈ lw_all := lw_g (lw_at lw_m1 46 rfl) rfl
theorem q72 : (Jvm.Cond.soleField "PersistentGraph" "logRoot") ∈ lw_all := lw_g (lw_at lw_m1 47 rfl) rfl
theorem q73 : (Jvm.Cond.lays "PersistentGraph" "PersistentGraph" "logCommitted" "I") ∈ lw_all := lw_g (lw_at lw_m1 48 rfl) rfl
theorem q74 : (Jvm.Cond.soleField "PersistentGraph" "logCommitted") ∈ lw_all := lw_g (lw_at lw_m1 49 rfl) rfl
theorem q75 : (Jvm.Cond.lays "PersistentGraph" "PersistentGraph" "loaded" "I") ∈ lw_all := lw_g (lw_at lw_m1 50 rfl) rfl
theorem q76 : (Jvm.Cond.soleField "PersistentGraph" "loaded") ∈ lw_all := lw_g (lw_at lw_m1 51 rfl) rfl
theorem q77 : (Jvm.Cond.laysFinal "PersistentGraph" "PersistentGraph" "memoryValue" "[I") ∈ lw_all := lw_g (lw_at lw_m1 52 rfl) rfl
theorem q78 : (Jvm.Cond.soleField "PersistentGraph" "memoryValue") ∈ lw_all := lw_g (lw_at lw_m1 53 rfl) rfl
theorem q79 : (Jvm.Cond.laysFinal "PersistentGraph" "PersistentGraph" "memoryLinks" "[B") ∈ lw_all := lw_g (lw_at lw_m1 54 rfl) rfl
theorem q80 : (Jvm.Cond.soleField "PersistentGraph" "memoryLinks") ∈ lw_all := lw_g (lw_at lw_m1 55 rfl) rfl
theorem q81 : (Jvm.Cond.lays "PersistentGraph" "PersistentGraph" "taken" "I") ∈ lw_all := lw_g (lw_at lw_m1 56 rfl) rfl
theorem q82 : (Jvm.Cond.soleField "PersistentGraph" "taken") ∈ lw_all := lw_g (lw_at lw_m1 57 rfl) rfl
theorem q83 : (Jvm.Cond.lays "PersistentGraph" "PersistentGraph" "root" "I") ∈ lw_all := lw_g (lw_at lw_m1 58 rfl) rfl
theorem q84 : (Jvm.Cond.soleField "PersistentGraph" "root") ∈ lw_all := lw_g (lw_at lw_m1 59 rfl) rfl
theorem q85 : (Jvm.Cond.laysFinal "PersistentGraph" "PersistentGraph" "handle" "[B") ∈ lw_all := lw_g (lw_at lw_m1 60 rfl) rfl
theorem q86 : (Jvm.Cond.soleField "PersistentGraph" "handle") ∈ lw_all := lw_g (lw_at lw_m1 61 rfl) rfl
theorem q87 : (Jvm.Cond.superclass "PersistentGraph" "java/lang/Object") ∈ lw_all := lw_g (lw_at lw_m1 62 rfl) rfl
theorem q91 : (Jvm.Cond.instanceMethod ({ cls := "PersistentGraph", name := "make", desc := "(II)I" } : Jvm.MethodName)) ∈ lw_all := lw_g (lw_at lw_m1 66 rfl) rfl
theorem q92 : (Jvm.Cond.selects "PersistentGraph" ({ cls := "PersistentGraph", name := "make", desc := "(II)I" } : Jvm.MethodName) ({ cls := "PersistentGraph", name := "make", desc := "(II)I" } : Jvm.MethodName)) ∈ lw_all := lw_g (lw_at lw_m1 67 rfl) rfl
theorem q93 : (Jvm.Cond.code ({ cls := "PersistentGraph", name := "make", desc := "(II)I" } : Jvm.MethodName) prog_1_method_2_code (5 : Nat) (Option.some Jvm.ClassFile.FieldType.int)) ∈ lw_all := lw_g (lw_at lw_m1 68 rfl) rfl
theorem q94 : (Jvm.Cond.methodLink "PersistentGraph" (42 : Nat) ({ cls := "PersistentGraph", name := "isHandle", desc := "(I)Z" } : Jvm.MethodName)) ∈ lw_all := lw_g (lw_at lw_m1 69 rfl) rfl
theorem q95 : (Jvm.Cond.privateMethod ({ cls := "PersistentGraph", name := "isHandle", desc := "(I)Z" } : Jvm.MethodName)) ∈ lw_tbl := lw_at lw_m1 70 rfl
theorem q96 : (Jvm.Cond.instanceMethod ({ cls := "PersistentGraph", name := "isHandle", desc := "(I)Z" } : Jvm.MethodName)) ∈ lw_all := lw_g (lw_at lw_m1 71 rfl) rfl
theorem q97 : (Jvm.Cond.code ({ cls := "PersistentGraph", name := "isHandle", desc := "(I)Z" } : Jvm.MethodName) prog_1_method_15_code (2 : Nat) (Option.some Jvm.ClassFile.FieldType.boolean)) ∈ lw_all := lw_g (lw_at lw_m1 72 rfl) rfl
theorem q98 : (Jvm.Cond.methodLink "PersistentGraph" (46 : Nat) ({ cls := "PersistentGraph", name := "usedPlaces", desc := "()I" } : Jvm.MethodName)) ∈ lw_all := lw_g (lw_at lw_m1 73 rfl) rfl
theorem q99 : (Jvm.Cond.privateMethod ({ cls := "PersistentGraph", name := "usedPlaces", desc := "()I" } : Jvm.MethodName)) ∈ lw_tbl := lw_at lw_m1 74 rfl
theorem q100 : (Jvm.Cond.instanceMethod ({ cls := "PersistentGraph", name := "usedPlaces", desc := "()I" } : Jvm.MethodName)) ∈ lw_all := lw_g (lw_at lw_m1 75 rfl) rfl
theorem q101 : (Jvm.Cond.code ({ cls := "PersistentGraph", name := "usedPlaces", desc := "()I" } : Jvm.MethodName) prog_1_method_20_code (3 : Nat) (Option.some Jvm.ClassFile.FieldType.int)) ∈ lw_all := lw_g (lw_at lw_m1 76 rfl) rfl
theorem q102 : (Jvm.Cond.methodLink "PersistentGraph" (96 : Nat) ({ cls := "PersistentGraph", name := "closure", desc := "(I)I" } : Jvm.MethodName)) ∈ lw_all := lw_g (lw_at lw_m1 77 rfl) rfl
theorem q103 : (Jvm.Cond.privateMethod ({ cls := "PersistentGraph", name := "closure", desc := "(I)I" } : Jvm.MethodName)) ∈ lw_tbl := lw_at lw_m1 78 rfl
theorem q104 : (Jvm.Cond.instanceMethod ({ cls := "PersistentGraph", name := "closure", desc := "(I)I" } : Jvm.MethodName)) ∈ lw_all := lw_g (lw_at lw_m1 79 rfl) rfl
theorem q105 : (Jvm.Cond.code ({ cls := "PersistentGraph", name := "closure", desc := "(I)I" } : Jvm.MethodName) prog_1_method_19_code (8 : Nat) (Option.some Jvm.ClassFile.FieldType.int)) ∈ lw_all := lw_g (lw_at lw_m1 80 rfl) rfl
theorem q106 : (Jvm.Cond.methodLink "PersistentGraph" (99 : Nat) ({ cls := "PersistentGraph", name := "linkOf", desc := "(II)I" } : Jvm.MethodName)) ∈ lw_all := lw_g (lw_at lw_m1 81 rfl) rfl
theorem q107 : (Jvm.Cond.privateMethod ({ cls := "PersistentGraph", name := "linkOf", desc := "(II)I" } : Jvm.MethodName)) ∈ lw_tbl := lw_at lw_m1 82 rfl
theorem q108 : (Jvm.Cond.instanceMethod ({ cls := "PersistentGraph", name := "linkOf", desc := "(II)I" } : Jvm.MethodName)) ∈ lw_all := lw_g (lw_at lw_m1 83 rfl) rfl
theorem q109 : (Jvm.Cond.code ({ cls := "PersistentGraph", name := "linkOf", desc := "(II)I" } : Jvm.MethodName) prog_1_method_18_code (3 : Nat) (Option.some Jvm.ClassFile.FieldType.int)) ∈ lw_all := lw_g (lw_at lw_m1 84 rfl) rfl
theorem q110 : (Jvm.Cond.methodLink "PersistentGraph" (50 : Nat) ({ cls := "PersistentGraph", name := "bitsIn", desc := "(I)I" } : Jvm.MethodName)) ∈ lw_all := lw_g (lw_at lw_m1 85 rfl) rfl
theorem q111 : (Jvm.Cond.privateMethod ({ cls := "PersistentGraph", name := "bitsIn", desc := "(I)I" } : Jvm.MethodName)) ∈ lw_tbl := lw_at lw_m1 86 rfl
theorem q112 : (Jvm.Cond.instanceMethod ({ cls := "PersistentGraph", name := "bitsIn", desc := "(I)I" } : Jvm.MethodName)) ∈ lw_all := lw_g (lw_at lw_m1 87 rfl) rfl
theorem q113 : (Jvm.Cond.code ({ cls := "PersistentGraph", name := "bitsIn", desc := "(I)I" } : Jvm.MethodName) prog_1_method_16_code (4 : Nat) (Option.some Jvm.ClassFile.FieldType.int)) ∈ lw_all := lw_g (lw_at lw_m1 88 rfl) rfl
theorem q114 : (Jvm.Cond.methodLink "PersistentGraph" (54 : Nat) ({ cls := "PersistentGraph", name := "freePlace", desc := "(I)I" } : Jvm.MethodName)) ∈ lw_all := lw_g (lw_at lw_m1 89 rfl) rfl
theorem q115 : (Jvm.Cond.privateMethod ({ cls := "PersistentGraph", name := "freePlace", desc := "(I)I" } : Jvm.MethodName)) ∈ lw_tbl := lw_at lw_m1 90 rfl
theorem q116 : (Jvm.Cond.instanceMethod ({ cls := "PersistentGraph", name := "freePlace", desc := "(I)I" } : Jvm.MethodName)) ∈ lw_all := lw_g (lw_at lw_m1 91 rfl) rfl
theorem q117 : (Jvm.Cond.code ({ cls := "PersistentGraph", name := "freePlace", desc := "(I)I" } : Jvm.MethodName) prog_1_method_21_code (3 : Nat) (Option.some Jvm.ClassFile.FieldType.int)) ∈ lw_all := lw_g (lw_at lw_m1 92 rfl) rfl
theorem q119 : (Jvm.Cond.instanceMethod ({ cls := "PersistentGraph", name := "getRoot", desc := "(I)I" } : Jvm.MethodName)) ∈ lw_all := lw_g (lw_at lw_m1 94 rfl) rfl
theorem q120 : (Jvm.Cond.selects "PersistentGraph" ({ cls := "PersistentGraph", name := "getRoot", desc := "(I)I" } : Jvm.MethodName) ({ cls := "PersistentGraph", name := "getRoot", desc := "(I)I" } : Jvm.MethodName)) ∈ lw_all := lw_g (lw_at lw_m1 95 rfl) rfl
theorem q121 : (Jvm.Cond.code ({ cls := "PersistentGraph", name := "getRoot", desc := "(I)I" } : Jvm.MethodName) prog_1_method_3_code (2 : Nat) (Option.some Jvm.ClassFile.FieldType.int)) ∈ lw_all := lw_g (lw_at lw_m1 96 rfl) rfl
theorem q123 : (Jvm.Cond.instanceMethod ({ cls := "PersistentGraph", name := "setRoot", desc := "(I)I" } : Jvm.MethodName)) ∈ lw_all := lw_g (lw_at lw_m1 98 rfl) rfl
theorem q124 : (Jvm.Cond.selects "PersistentGraph" ({ cls := "PersistentGraph", name := "setRoot", desc := "(I)I" } : Jvm.MethodName) ({ cls := "PersistentGraph", name := "setRoot", desc := "(I)I" } : Jvm.MethodName)) ∈ lw_all := lw_g (lw_at lw_m1 99 rfl) rfl
theorem q125 : (Jvm.Cond.code ({ cls := "PersistentGraph", name := "setRoot", desc := "(I)I" } : Jvm.MethodName) prog_1_method_4_code (2 : Nat) (Option.some Jvm.ClassFile.FieldType.int)) ∈ lw_all := lw_g (lw_at lw_m1 100 rfl) rfl
theorem q127 : (Jvm.Cond.instanceMethod ({ cls := "PersistentGraph", name := "follow", desc := "(III)I" } : Jvm.MethodName)) ∈ lw_all := lw_g (lw_at lw_m1 102 rfl) rfl
theorem q128 : (Jvm.Cond.selects "PersistentGraph" ({ cls := "PersistentGraph", name := "follow", desc := "(III)I" } : Jvm.MethodName) ({ cls := "PersistentGraph", name := "follow", desc := "(III)I" } : Jvm.MethodName)) ∈ lw_all := lw_g (lw_at lw_m1 103 rfl) rfl
theorem q129 : (Jvm.Cond.code ({ cls := "PersistentGraph", name := "follow", desc := "(III)I" } : Jvm.MethodName) prog_1_method_5_code (5 : Nat) (Option.some Jvm.ClassFile.FieldType.int)) ∈ lw_all := lw_g (lw_at lw_m1 104 rfl) rfl
theorem q130 : (Jvm.Cond.methodLink "PersistentGraph" (63 : Nat) ({ cls := "PersistentGraph", name := "bringIn", desc := "(I)V" } : Jvm.MethodName)) ∈ lw_all := lw_g (lw_at lw_m1 105 rfl) rfl
theorem q131 : (Jvm.Cond.privateMethod ({ cls := "PersistentGraph", name := "bringIn", desc := "(I)V" } : Jvm.MethodName)) ∈ lw_tbl := lw_at lw_m1 106 rfl
theorem q132 : (Jvm.Cond.instanceMethod ({ cls := "PersistentGraph", name := "bringIn", desc := "(I)V" } : Jvm.MethodName)) ∈ lw_all := lw_g (lw_at lw_m1 107 rfl) rfl
theorem q133 : (Jvm.Cond.code ({ cls := "PersistentGraph", name := "bringIn", desc := "(I)V" } : Jvm.MethodName) prog_1_method_17_code (2 : Nat) (Option.none : Option Jvm.ClassFile.FieldType)) ∈ lw_all := lw_g (lw_at lw_m1 108 rfl) rfl
theorem q135 : (Jvm.Cond.instanceMethod ({ cls := "PersistentGraph", name := "link", desc := "(III)I" } : Jvm.MethodName)) ∈ lw_all := lw_g (lw_at lw_m1 110 rfl) rfl
theorem q136 : (Jvm.Cond.selects "PersistentGraph" ({ cls := "PersistentGraph", name := "link", desc := "(III)I" } : Jvm.MethodName) ({ cls := "PersistentGraph", name := "link", desc := "(III)I" } : Jvm.MethodName)) ∈ lw_all := lw_g (lw_at lw_m1 111 rfl) rfl
theorem q137 : (Jvm.Cond.code ({ cls := "PersistentGraph", name := "link", desc := "(III)I" } : Jvm.MethodName) prog_1_method_6_code (5 : Nat) (Option.some Jvm.ClassFile.FieldType.int)) ∈ lw_all := lw_g (lw_at lw_m1 112 rfl) rfl
theorem q139 : (Jvm.Cond.instanceMethod ({ cls := "PersistentGraph", name := "drop", desc := "(I)I" } : Jvm.MethodName)) ∈ lw_all := lw_g (lw_at lw_m1 114 rfl) rfl
theorem q140 : (Jvm.Cond.selects "PersistentGraph" ({ cls := "PersistentGraph", name := "drop", desc := "(I)I" } : Jvm.MethodName) ({ cls := "PersistentGraph", name := "drop", desc := "(I)I" } : Jvm.MethodName)) ∈ lw_all := lw_g (lw_at lw_m1 115 rfl) rfl
theorem q141 : (Jvm.Cond.code ({ cls := "PersistentGraph", name := "drop", desc := "(I)I" } : Jvm.MethodName) prog_1_method_7_code (3 : Nat) (Option.some Jvm.ClassFile.FieldType.int)) ∈ lw_all := lw_g (lw_at lw_m1 116 rfl) rfl
theorem q143 : (Jvm.Cond.instanceMethod ({ cls := "PersistentGraph", name := "value", desc := "(I)I" } : Jvm.MethodName)) ∈ lw_all := lw_g (lw_at lw_m1 118 rfl) rfl
theorem q144 : (Jvm.Cond.selects "PersistentGraph" ({ cls := "PersistentGraph", name := "value", desc := "(I)I" } : Jvm.MethodName) ({ cls := "PersistentGraph", name := "value", desc := "(I)I" } : Jvm.MethodName)) ∈ lw_all := lw_g (lw_at lw_m1 119 rfl) rfl
theorem q145 : (Jvm.Cond.code ({ cls := "PersistentGraph", name := "value", desc := "(I)I" } : Jvm.MethodName) prog_1_method_8_code (3 : Nat) (Option.some Jvm.ClassFile.FieldType.int)) ∈ lw_all := lw_g (lw_at lw_m1 120 rfl) rfl
theorem q147 : (Jvm.Cond.instanceMethod ({ cls := "PersistentGraph", name := "setValue", desc := "(II)I" } : Jvm.MethodName)) ∈ lw_all := lw_g (lw_at lw_m1 122 rfl) rfl
theorem q148 : (Jvm.Cond.selects "PersistentGraph" ({ cls := "PersistentGraph", name := "setValue", desc := "(II)I" } : Jvm.MethodName) ({ cls := "PersistentGraph", name := "setValue", desc := "(II)I" } : Jvm.MethodName)) ∈ lw_all := lw_g (lw_at lw_m1 123 rfl) rfl
theorem q149 : (Jvm.Cond.code ({ cls := "PersistentGraph", name := "setValue", desc := "(II)I" } : Jvm.MethodName) prog_1_method_9_code (4 : Nat) (Option.some Jvm.ClassFile.FieldType.int)) ∈ lw_all := lw_g (lw_at lw_m1 124 rfl) rfl
theorem q151 : (Jvm.Cond.instanceMethod ({ cls := "PersistentGraph", name := "same", desc := "(II)Z" } : Jvm.MethodName)) ∈ lw_all := lw_g (lw_at lw_m1 126 rfl) rfl
theorem q152 : (Jvm.Cond.selects "PersistentGraph" ({ cls := "PersistentGraph", name := "same", desc := "(II)Z" } : Jvm.MethodName) ({ cls := "PersistentGraph", name := "same", desc := "(II)Z" } : Jvm.MethodName)) ∈ lw_all := lw_g (lw_at lw_m1 127 rfl) rfl
theorem q153 : (Jvm.Cond.code ({ cls := "PersistentGraph", name := "same", desc := "(II)Z" } : Jvm.MethodName) prog_1_method_10_code (3 : Nat) (Option.some Jvm.ClassFile.FieldType.boolean)) ∈ lw_all := lw_g (lw_at lw_m1 128 rfl) rfl
theorem q155 : (Jvm.Cond.instanceMethod ({ cls := "PersistentGraph", name := "commit", desc := "()I" } : Jvm.MethodName)) ∈ lw_all := lw_g (lw_at lw_m1 130 rfl) rfl
theorem q156 : (Jvm.Cond.selects "PersistentGraph" ({ cls := "PersistentGraph", name := "commit", desc := "()I" } : Jvm.MethodName) ({ cls := "PersistentGraph", name := "commit", desc := "()I" } : Jvm.MethodName)) ∈ lw_all := lw_g (lw_at lw_m1 131 rfl) rfl
theorem q157 : (Jvm.Cond.code ({ cls := "PersistentGraph", name := "commit", desc := "()I" } : Jvm.MethodName) prog_1_method_11_code (2 : Nat) (Option.some Jvm.ClassFile.FieldType.int)) ∈ lw_all := lw_g (lw_at lw_m1 132 rfl) rfl
theorem q158 : (Jvm.Cond.methodLink "PersistentGraph" (67 : Nat) ({ cls := "PersistentGraph", name := "changedPlaces", desc := "()I" } : Jvm.MethodName)) ∈ lw_all := lw_g (lw_at lw_m1 133 rfl) rfl
theorem q159 : (Jvm.Cond.privateMethod ({ cls := "PersistentGraph", name := "changedPlaces", desc := "()I" } : Jvm.MethodName)) ∈ lw_tbl := lw_at lw_m1 134 rfl
theorem q160 : (Jvm.Cond.instanceMethod ({ cls := "PersistentGraph", name := "changedPlaces", desc := "()I" } : Jvm.MethodName)) ∈ lw_all := lw_g (lw_at lw_m1 135 rfl) rfl
theorem q161 : (Jvm.Cond.code ({ cls := "PersistentGraph", name := "changedPlaces", desc := "()I" } : Jvm.MethodName) prog_1_method_23_code (4 : Nat) (Option.some Jvm.ClassFile.FieldType.int)) ∈ lw_all := lw_g (lw_at lw_m1 136 rfl) rfl
theorem q162 : (Jvm.Cond.methodLink "PersistentGraph" (103 : Nat) ({ cls := "PersistentGraph", name := "differs", desc := "(I)Z" } : Jvm.MethodName)) ∈ lw_all := lw_g (lw_at lw_m1 137 rfl) rfl
theorem q163 : (Jvm.Cond.privateMethod ({ cls := "PersistentGraph", name := "differs", desc := "(I)Z" } : Jvm.MethodName)) ∈ lw_tbl := lw_at lw_m1 138 rfl
theorem q164 : (Jvm.Cond.instanceMethod ({ cls := "PersistentGraph", name := "differs", desc := "(I)Z" } : Jvm.MethodName)) ∈ lw_all := lw_g (lw_at lw_m1 139 rfl) rfl
theorem q165 : (Jvm.Cond.code ({ cls := "PersistentGraph", name := "differs", desc := "(I)Z" } : Jvm.MethodName) prog_1_method_22_code (2 : Nat) (Option.some Jvm.ClassFile.FieldType.boolean)) ∈ lw_all := lw_g (lw_at lw_m1 140 rfl) rfl
theorem q166 : (Jvm.Cond.methodLink "PersistentGraph" (70 : Nat) ({ cls := "PersistentGraph", name := "writeLog", desc := "(II)V" } : Jvm.MethodName)) ∈ lw_all := lw_g (lw_at lw_m1 141 rfl) rfl
theorem q167 : (Jvm.Cond.privateMethod ({ cls := "PersistentGraph", name := "writeLog", desc := "(II)V" } : Jvm.MethodName)) ∈ lw_tbl := lw_at lw_m1 142 rfl
theorem q168 : (Jvm.Cond.instanceMethod ({ cls := "PersistentGraph", name := "writeLog", desc := "(II)V" } : Jvm.MethodName)) ∈ lw_all := lw_g (lw_at lw_m1 143 rfl) rfl
theorem q169 : (Jvm.Cond.code ({ cls := "PersistentGraph", name := "writeLog", desc := "(II)V" } : Jvm.MethodName) prog_1_method_24_code (4 : Nat) (Option.none : Option Jvm.ClassFile.FieldType)) ∈ lw_all := lw_g (lw_at lw_m1 144 rfl) rfl
theorem q170 : (Jvm.Cond.methodLink "PersistentGraph" (74 : Nat) ({ cls := "PersistentGraph", name := "writeMark", desc := "()V" } : Jvm.MethodName)) ∈ lw_all := lw_g (lw_at lw_m1 145 rfl) rfl
theorem q171 : (Jvm.Cond.privateMethod ({ cls := "PersistentGraph", name := "writeMark", desc := "()V" } : Jvm.MethodName)) ∈ lw_tbl := lw_at lw_m1 146 rfl
theorem q172 : (Jvm.Cond.instanceMethod ({ cls := "PersistentGraph", name := "writeMark", desc := "()V" } : Jvm.MethodName)) ∈ lw_all := lw_g (lw_at lw_m1 147 rfl) rfl
theorem q173 : (Jvm.Cond.code ({ cls := "PersistentGraph", name := "writeMark", desc := "()V" } : Jvm.MethodName) prog_1_method_25_code (1 : Nat) (Option.none : Option Jvm.ClassFile.FieldType)) ∈ lw_all := lw_g (lw_at lw_m1 148 rfl) rfl
theorem q174 : (Jvm.Cond.methodLink "PersistentGraph" (77 : Nat) ({ cls := "PersistentGraph", name := "moveData", desc := "(I)V" } : Jvm.MethodName)) ∈ lw_all := lw_g (lw_at lw_m1 149 rfl) rfl
theorem q175 : (Jvm.Cond.privateMethod ({ cls := "PersistentGraph", name := "moveData", desc := "(I)V" } : Jvm.MethodName)) ∈ lw_tbl := lw_at lw_m1 150 rfl
theorem q176 : (Jvm.Cond.instanceMethod ({ cls := "PersistentGraph", name := "moveData", desc := "(I)V" } : Jvm.MethodName)) ∈ lw_all := lw_g (lw_at lw_m1 151 rfl) rfl
theorem q177 : (Jvm.Cond.code ({ cls := "PersistentGraph", name := "moveData", desc := "(I)V" } : Jvm.MethodName) prog_1_method_26_code (4 : Nat) (Option.none : Option Jvm.ClassFile.FieldType)) ∈ lw_all := lw_g (lw_at lw_m1 152 rfl) rfl
theorem q179 : (Jvm.Cond.instanceMethod ({ cls := "PersistentGraph", name := "abort", desc := "()I" } : Jvm.MethodName)) ∈ lw_all := lw_g (lw_at lw_m1 154 rfl) rfl
theorem q180 : (Jvm.Cond.selects "PersistentGraph" ({ cls := "PersistentGraph", name := "abort", desc := "()I" } : Jvm.MethodName) ({ cls := "PersistentGraph", name := "abort", desc := "()I" } : Jvm.MethodName)) ∈ lw_all := lw_g (lw_at lw_m1 155 rfl) rfl
theorem q181 : (Jvm.Cond.code ({ cls := "PersistentGraph", name := "abort", desc := "()I" } : Jvm.MethodName) prog_1_method_12_code (1 : Nat) (Option.some Jvm.ClassFile.FieldType.int)) ∈ lw_all := lw_g (lw_at lw_m1 156 rfl) rfl
theorem q182 : (Jvm.Cond.methodLink "PersistentGraph" (87 : Nat) ({ cls := "PersistentGraph", name := "restartProgram", desc := "()V" } : Jvm.MethodName)) ∈ lw_all := lw_g (lw_at lw_m1 157 rfl) rfl
theorem q183 : (Jvm.Cond.privateMethod ({ cls := "PersistentGraph", name := "restartProgram", desc := "()V" } : Jvm.MethodName)) ∈ lw_tbl := lw_at lw_m1 158 rfl
theorem q184 : (Jvm.Cond.instanceMethod ({ cls := "PersistentGraph", name := "restartProgram", desc := "()V" } : Jvm.MethodName)) ∈ lw_all := lw_g (lw_at lw_m1 159 rfl) rfl
theorem q185 : (Jvm.Cond.code ({ cls := "PersistentGraph", name := "restartProgram", desc := "()V" } : Jvm.MethodName) prog_1_method_28_code (2 : Nat) (Option.none : Option Jvm.ClassFile.FieldType)) ∈ lw_all := lw_g (lw_at lw_m1 160 rfl) rfl
theorem q187 : (Jvm.Cond.instanceMethod ({ cls := "PersistentGraph", name := "crash", desc := "(I)I" } : Jvm.MethodName)) ∈ lw_all := lw_g (lw_at lw_m1 162 rfl) rfl
theorem q188 : (Jvm.Cond.selects "PersistentGraph" ({ cls := "PersistentGraph", name := "crash", desc := "(I)I" } : Jvm.MethodName) ({ cls := "PersistentGraph", name := "crash", desc := "(I)I" } : Jvm.MethodName)) ∈ lw_all := lw_g (lw_at lw_m1 163 rfl) rfl
theorem q189 : (Jvm.Cond.code ({ cls := "PersistentGraph", name := "crash", desc := "(I)I" } : Jvm.MethodName) prog_1_method_13_code (6 : Nat) (Option.some Jvm.ClassFile.FieldType.int)) ∈ lw_all := lw_g (lw_at lw_m1 164 rfl) rfl
theorem q190 : (Jvm.Cond.methodLink "PersistentGraph" (93 : Nat) ({ cls := "PersistentGraph", name := "recover", desc := "()V" } : Jvm.MethodName)) ∈ lw_all := lw_g (lw_at lw_m1 165 rfl) rfl
theorem q191 : (Jvm.Cond.privateMethod ({ cls := "PersistentGraph", name := "recover", desc := "()V" } : Jvm.MethodName)) ∈ lw_tbl := lw_at lw_m1 166 rfl
theorem q192 : (Jvm.Cond.instanceMethod ({ cls := "PersistentGraph", name := "recover", desc := "()V" } : Jvm.MethodName)) ∈ lw_all := lw_g (lw_at lw_m1 167 rfl) rfl
theorem q193 : (Jvm.Cond.code ({ cls := "PersistentGraph", name := "recover", desc := "()V" } : Jvm.MethodName) prog_1_method_27_code (1 : Nat) (Option.none : Option Jvm.ClassFile.FieldType)) ∈ lw_all := lw_g (lw_at lw_m1 168 rfl) rfl
theorem q195 : (Jvm.Cond.instanceMethod ({ cls := "PersistentGraph", name := "reachable", desc := "()I" } : Jvm.MethodName)) ∈ lw_all := lw_g (lw_at lw_m1 170 rfl) rfl
theorem q196 : (Jvm.Cond.selects "PersistentGraph" ({ cls := "PersistentGraph", name := "reachable", desc := "()I" } : Jvm.MethodName) ({ cls := "PersistentGraph", name := "reachable", desc := "()I" } : Jvm.MethodName)) ∈ lw_all := lw_g (lw_at lw_m1 171 rfl) rfl
theorem q197 : (Jvm.Cond.code ({ cls := "PersistentGraph", name := "reachable", desc := "()I" } : Jvm.MethodName) prog_1_method_14_code (2 : Nat) (Option.some Jvm.ClassFile.FieldType.int)) ∈ lw_all := lw_g (lw_at lw_m1 172 rfl) rfl
theorem in_X0 : ∀ w ∈ wsX00, w ∈ lw_all := lw_in wsX00 [53, 55, 57, 59, 61, 63, 65, 67, 69, 71, 73, 75, 77, 79, 81, 83, 85] (by decide +kernel) (by decide +kernel)
/-! PersistentGraphModel -/
def RX1 : String := "PersistentGraphModel"
def TX1 : u_T := fun k => match k with
  | 0 => ("PersistentGraphModel", "value", "[I", false)
  | 1 => ("PersistentGraphModel", "to", "[I", false)
  | 2 => ("PersistentGraphModel", "root", "I", false)
  | 3 => ("PersistentGraphModel", "handle", "[I", false)
  | 4 => ("PersistentGraphModel", "oldValue", "[I", false)
  | 5 => ("PersistentGraphModel", "oldTo", "[I", false)
  | _ => ("PersistentGraphModel", "oldRoot", "I", false)
def tyX1 : Nat → FieldType := fun k => match k with
  | 0 => .array .int
  | 1 => .array .int
  | 2 => .int
  | 3 => .array .int
  | 4 => .array .int
  | 5 => .array .int
  | _ => .int
abbrev wsX10 : List Cond := u_ws RX1 TX1 7
theorem nmX1 : ∀ a, a < 7 → ∀ b, b < 7 → a ≠ b → (TX1 a).2.1 ≠ (TX1 b).2.1 := by decide +kernel
theorem tyX1_ok : ∀ k, k < 7 → parseFieldDescriptor (TX1 k).2.2.1 = some (tyX1 k) := by decide +kernel
abbrev cX1_init : ByteArray := prog_3_method_1_code
def yX1_init : MethodName := ⟨RX1, "<init>", "()V"⟩
abbrev cX1_forget : ByteArray := prog_3_method_2_code
def yX1_forget : MethodName := ⟨RX1, "forget", "()V"⟩
abbrev cX1_make : ByteArray := prog_3_method_11_code
def yX1_make : MethodName := ⟨RX1, "make", "(II)I"⟩
abbrev cX1_isHandle : ByteArray := prog_3_method_3_code
def yX1_isHandle : MethodName := ⟨RX1, "isHandle", "(I)Z"⟩
abbrev cX1_used : ByteArray := prog_3_method_9_code
def yX1_used : MethodName := ⟨RX1, "used", "()I"⟩
abbrev cX1_bit : ByteArray := prog_3_method_4_code
def yX1_bit : MethodName := ⟨RX1, "bit", "(I)I"⟩
abbrev cX1_spread : ByteArray := prog_3_method_6_code
def yX1_spread : MethodName := ⟨RX1, "spread", "(IZ)I"⟩
abbrev cX1_in : ByteArray := prog_3_method_5_code
def yX1_in : MethodName := ⟨RX1, "in", "(II)Z"⟩
abbrev cX1_committed : ByteArray := prog_3_method_7_code
def yX1_committed : MethodName := ⟨RX1, "committed", "()I"⟩
abbrev cX1_getRoot : ByteArray := prog_3_method_13_code
def yX1_getRoot : MethodName := ⟨RX1, "getRoot", "(I)I"⟩
abbrev cX1_leads : ByteArray := prog_3_method_12_code
def yX1_leads : MethodName := ⟨RX1, "leads", "(I)I"⟩
abbrev cX1_setRoot : ByteArray := prog_3_method_14_code
def yX1_setRoot : MethodName := ⟨RX1, "setRoot", "(I)I"⟩
abbrev cX1_follow : ByteArray := prog_3_method_15_code
def yX1_follow : MethodName := ⟨RX1, "follow", "(III)I"⟩
abbrev cX1_link : ByteArray := prog_3_method_16_code
def yX1_link : MethodName := ⟨RX1, "link", "(III)I"⟩
abbrev cX1_drop : ByteArray := prog_3_method_17_code
def yX1_drop : MethodName := ⟨RX1, "drop", "(I)I"⟩
abbrev cX1_value : ByteArray := prog_3_method_18_code
def yX1_value : MethodName := ⟨RX1, "value", "(I)I"⟩
abbrev cX1_setValue : ByteArray := prog_3_method_19_code
def yX1_setValue : MethodName := ⟨RX1, "setValue", "(II)I"⟩
abbrev cX1_same : ByteArray := prog_3_method_20_code
def yX1_same : MethodName := ⟨RX1, "same", "(II)Z"⟩
abbrev cX1_commit : ByteArray := prog_3_method_22_code
def yX1_commit : MethodName := ⟨RX1, "commit", "()I"⟩
abbrev cX1_changed : ByteArray := prog_3_method_21_code
def yX1_changed : MethodName := ⟨RX1, "changed", "()I"⟩
abbrev cX1_reached : ByteArray := prog_3_method_8_code
def yX1_reached : MethodName := ⟨RX1, "reached", "()I"⟩
abbrev cX1_abort : ByteArray := prog_3_method_23_code
def yX1_abort : MethodName := ⟨RX1, "abort", "()I"⟩
abbrev cX1_sizeOf : ByteArray := prog_3_method_10_code
def yX1_sizeOf : MethodName := ⟨RX1, "sizeOf", "(I)I"⟩
abbrev cX1_crash : ByteArray := prog_3_method_24_code
def yX1_crash : MethodName := ⟨RX1, "crash", "(I)I"⟩
abbrev cX1_reachable : ByteArray := prog_3_method_25_code
def yX1_reachable : MethodName := ⟨RX1, "reachable", "()I"⟩
theorem q27 : (Jvm.Cond.initialized "PersistentGraphModel") ∈ lw_all := lw_g (lw_at lw_m1 2 rfl) rfl
theorem q199 : (Jvm.Cond.instantiable "PersistentGraphModel" (7 : Nat)) ∈ lw_all := lw_g (lw_at lw_m1 174 rfl) rfl
theorem q201 : (Jvm.Cond.instanceMethod ({ cls := "PersistentGraphModel", name := "<init>", desc := "()V" } : Jvm.MethodName)) ∈ lw_all := lw_g (lw_at lw_m1 176 rfl) rfl
theorem q202 : (Jvm.Cond.code ({ cls := "PersistentGraphModel", name := "<init>", desc := "()V" } : Jvm.MethodName) prog_3_method_1_code (1 : Nat) (Option.none : Option Jvm.ClassFile.FieldType)) ∈ lw_all := lw_g (lw_at lw_m1 177 rfl) rfl
theorem q203 : (Jvm.Cond.methodLink "PersistentGraphModel" (1 : Nat) ({ cls := "java/lang/Object", name := "<init>", desc := "()V" } : Jvm.MethodName)) ∈ lw_all := lw_g (lw_at lw_m1 178 rfl) rfl
theorem q204 : (Jvm.Cond.methodLink "PersistentGraphModel" (32 : Nat) ({ cls := "PersistentGraphModel", name := "forget", desc := "()V" } : Jvm.MethodName)) ∈ lw_all := lw_g (lw_at lw_m1 179 rfl) rfl
theorem q205 : (Jvm.Cond.privateMethod ({ cls := "PersistentGraphModel", name := "forget", desc := "()V" } : Jvm.MethodName)) ∈ lw_tbl := lw_at lw_m1 180 rfl
theorem q206 : (Jvm.Cond.instanceMethod ({ cls := "PersistentGraphModel", name := "forget", desc := "()V" } : Jvm.MethodName)) ∈ lw_all := lw_g (lw_at lw_m1 181 rfl) rfl
theorem q207 : (Jvm.Cond.code ({ cls := "PersistentGraphModel", name := "forget", desc := "()V" } : Jvm.MethodName) prog_3_method_2_code (2 : Nat) (Option.none : Option Jvm.ClassFile.FieldType)) ∈ lw_all := lw_g (lw_at lw_m1 182 rfl) rfl
theorem q208 : (Jvm.Cond.fieldLink "PersistentGraphModel" (7 : Nat) "PersistentGraphModel" "value" "[I") ∈ lw_all := lw_g (lw_at lw_m1 183 rfl) rfl
theorem q209 : (Jvm.Cond.fieldLink "PersistentGraphModel" (13 : Nat) "PersistentGraphModel" "to" "[I") ∈ lw_all := lw_g (lw_at lw_m1 184 rfl) rfl
theorem q210 : (Jvm.Cond.fieldLink "PersistentGraphModel" (16 : Nat) "PersistentGraphModel" "root" "I") ∈ lw_all := lw_g (lw_at lw_m1 185 rfl) rfl
theorem q211 : (Jvm.Cond.fieldLink "PersistentGraphModel" (20 : Nat) "PersistentGraphModel" "handle" "[I") ∈ lw_all := lw_g (lw_at lw_m1 186 rfl) rfl
theorem q212 : (Jvm.Cond.fieldLink "PersistentGraphModel" (23 : Nat) "PersistentGraphModel" "oldValue" "[I") ∈ lw_all := lw_g (lw_at lw_m1 187 rfl) rfl
theorem q213 : (Jvm.Cond.fieldLink "PersistentGraphModel" (26 : Nat) "PersistentGraphModel" "oldTo" "[I") ∈ lw_all := lw_g (lw_at lw_m1 188 rfl) rfl
theorem q214 : (Jvm.Cond.fieldLink "PersistentGraphModel" (29 : Nat) "PersistentGraphModel" "oldRoot" "I") ∈ lw_all := lw_g (lw_at lw_m1 189 rfl) rfl
theorem q215 : (Jvm.Cond.lays "PersistentGraphModel" "PersistentGraphModel" "value" "[I") ∈ lw_all := lw_g (lw_at lw_m1 190 rfl) rfl
theorem q216 : (Jvm.Cond.soleField "PersistentGraphModel" "value") ∈ lw_all := lw_g (lw_at lw_m1 191 rfl) rfl
theorem q217 : (Jvm.Cond.lays "PersistentGraphModel" "PersistentGraphModel" "to" "[I") ∈ lw_all := lw_g (lw_at lw_m1 192 rfl) rfl
theorem q218 : (Jvm.Cond.soleField "PersistentGraphModel" "to") ∈ lw_all := lw_g (lw_at lw_m1 193 rfl) rfl
theorem q219 : (Jvm.Cond.lays "PersistentGraphModel" "PersistentGraphModel" "root" "I") ∈ lw_all := lw_g (lw_at lw_m1 194 rfl) rfl
theorem q220 : (Jvm.Cond.soleField "PersistentGraphModel" "root") ∈ lw_all := lw_g (lw_at lw_m1 195 rfl) rfl
theorem q221 : (Jvm.Cond.lays "PersistentGraphModel" "PersistentGraphModel" "handle" "[I") ∈ lw_all := lw_g (lw_at lw_m1 196 rfl) rfl
theorem q222 : (Jvm.Cond.soleField "PersistentGraphModel" "handle") ∈ lw_all := lw_g (lw_at lw_m1 197 rfl) rfl
theorem q223 : (Jvm.Cond.lays "PersistentGraphModel" "PersistentGraphModel" "oldValue" "[I") ∈ lw_all := lw_g (lw_at lw_m1 198 rfl) rfl
theorem q224 : (Jvm.Cond.soleField "PersistentGraphModel" "oldValue") ∈ lw_all := lw_g (lw_at lw_m1 199 rfl) rfl
theorem q225 : (Jvm.Cond.lays "PersistentGraphModel" "PersistentGraphModel" "oldTo" "[I") ∈ lw_all := lw_g (lw_at lw_m1 200 rfl) rfl
theorem q226 : (Jvm.Cond.soleField "PersistentGraphModel" "oldTo") ∈ lw_all := lw_g (lw_at lw_m1 201 rfl) rfl
theorem q227 : (Jvm.Cond.lays "PersistentGraphModel" "PersistentGraphModel" "oldRoot" "I") ∈ lw_all := lw_g (lw_at lw_m1 202 rfl) rfl
theorem q228 : (Jvm.Cond.soleField "PersistentGraphModel" "oldRoot") ∈ lw_all := lw_g (lw_at lw_m1 203 rfl) rfl
theorem q229 : (Jvm.Cond.superclass "PersistentGraphModel" "java/lang/Object") ∈ lw_all := lw_g (lw_at lw_m1 204 rfl) rfl
theorem q231 : (Jvm.Cond.instanceMethod ({ cls := "PersistentGraphModel", name := "make", desc := "(II)I" } : Jvm.MethodName)) ∈ lw_all := lw_g (lw_at lw_m1 206 rfl) rfl
theorem q232 : (Jvm.Cond.selects "PersistentGraphModel" ({ cls := "PersistentGraphModel", name := "make", desc := "(II)I" } : Jvm.MethodName) ({ cls := "PersistentGraphModel", name := "make", desc := "(II)I" } : Jvm.MethodName)) ∈ lw_all := lw_g (lw_at lw_m1 207 rfl) rfl
theorem q233 : (Jvm.Cond.code ({ cls := "PersistentGraphModel", name := "make", desc := "(II)I" } : Jvm.MethodName) prog_3_method_11_code (5 : Nat) (Option.some Jvm.ClassFile.FieldType.int)) ∈ lw_all := lw_g (lw_at lw_m1 208 rfl) rfl
theorem q234 : (Jvm.Cond.methodLink "PersistentGraphModel" (51 : Nat) ({ cls := "PersistentGraphModel", name := "isHandle", desc := "(I)Z" } : Jvm.MethodName)) ∈ lw_all := lw_g (lw_at lw_m1 209 rfl) rfl
theorem q235 : (Jvm.Cond.privateMethod ({ cls := "PersistentGraphModel", name := "isHandle", desc := "(I)Z" } : Jvm.MethodName)) ∈ lw_tbl := lw_at lw_m1 210 rfl
theorem q236 : (Jvm.Cond.instanceMethod ({ cls := "PersistentGraphModel", name := "isHandle", desc := "(I)Z" } : Jvm.MethodName)) ∈ lw_all := lw_g (lw_at lw_m1 211 rfl) rfl
theorem q237 : (Jvm.Cond.code ({ cls := "PersistentGraphModel", name := "isHandle", desc := "(I)Z" } : Jvm.MethodName) prog_3_method_3_code (2 : Nat) (Option.some Jvm.ClassFile.FieldType.boolean)) ∈ lw_all := lw_g (lw_at lw_m1 212 rfl) rfl
theorem q238 : (Jvm.Cond.methodLink "PersistentGraphModel" (55 : Nat) ({ cls := "PersistentGraphModel", name := "used", desc := "()I" } : Jvm.MethodName)) ∈ lw_all := lw_g (lw_at lw_m1 213 rfl) rfl
theorem q239 : (Jvm.Cond.privateMethod ({ cls := "PersistentGraphModel", name := "used", desc := "()I" } : Jvm.MethodName)) ∈ lw_tbl := lw_at lw_m1 214 rfl
theorem q240 : (Jvm.Cond.instanceMethod ({ cls := "PersistentGraphModel", name := "used", desc := "()I" } : Jvm.MethodName)) ∈ lw_all := lw_g (lw_at lw_m1 215 rfl) rfl
theorem q241 : (Jvm.Cond.code ({ cls := "PersistentGraphModel", name := "used", desc := "()I" } : Jvm.MethodName) prog_3_method_9_code (3 : Nat) (Option.some Jvm.ClassFile.FieldType.int)) ∈ lw_all := lw_g (lw_at lw_m1 216 rfl) rfl
theorem q242 : (Jvm.Cond.methodLink "PersistentGraphModel" (39 : Nat) ({ cls := "PersistentGraphModel", name := "bit", desc := "(I)I" } : Jvm.MethodName)) ∈ lw_all := lw_g (lw_at lw_m1 217 rfl) rfl
theorem q243 : (Jvm.Cond.privateMethod ({ cls := "PersistentGraphModel", name := "bit", desc := "(I)I" } : Jvm.MethodName)) ∈ lw_tbl := lw_at lw_m1 218 rfl
theorem q244 : (Jvm.Cond.instanceMethod ({ cls := "PersistentGraphModel", name := "bit", desc := "(I)I" } : Jvm.MethodName)) ∈ lw_all := lw_g (lw_at lw_m1 219 rfl) rfl
theorem q245 : (Jvm.Cond.code ({ cls := "PersistentGraphModel", name := "bit", desc := "(I)I" } : Jvm.MethodName) prog_3_method_4_code (2 : Nat) (Option.some Jvm.ClassFile.FieldType.int)) ∈ lw_all := lw_g (lw_at lw_m1 220 rfl) rfl
theorem q246 : (Jvm.Cond.methodLink "PersistentGraphModel" (43 : Nat) ({ cls := "PersistentGraphModel", name := "spread", desc := "(IZ)I" } : Jvm.MethodName)) ∈ lw_all := lw_g (lw_at lw_m1 221 rfl) rfl
theorem q247 : (Jvm.Cond.privateMethod ({ cls := "PersistentGraphModel", name := "spread", desc := "(IZ)I" } : Jvm.MethodName)) ∈ lw_tbl := lw_at lw_m1 222 rfl
theorem q248 : (Jvm.Cond.instanceMethod ({ cls := "PersistentGraphModel", name := "spread", desc := "(IZ)I" } : Jvm.MethodName)) ∈ lw_all := lw_g (lw_at lw_m1 223 rfl) rfl
theorem q249 : (Jvm.Cond.code ({ cls := "PersistentGraphModel", name := "spread", desc := "(IZ)I" } : Jvm.MethodName) prog_3_method_6_code (7 : Nat) (Option.some Jvm.ClassFile.FieldType.int)) ∈ lw_all := lw_g (lw_at lw_m1 224 rfl) rfl
theorem q250 : (Jvm.Cond.methodLink "PersistentGraphModel" (35 : Nat) ({ cls := "PersistentGraphModel", name := "in", desc := "(II)Z" } : Jvm.MethodName)) ∈ lw_all := lw_g (lw_at lw_m1 225 rfl) rfl
theorem q251 : (Jvm.Cond.privateMethod ({ cls := "PersistentGraphModel", name := "in", desc := "(II)Z" } : Jvm.MethodName)) ∈ lw_tbl := lw_at lw_m1 226 rfl
theorem q252 : (Jvm.Cond.instanceMethod ({ cls := "PersistentGraphModel", name := "in", desc := "(II)Z" } : Jvm.MethodName)) ∈ lw_all := lw_g (lw_at lw_m1 227 rfl) rfl
theorem q253 : (Jvm.Cond.code ({ cls := "PersistentGraphModel", name := "in", desc := "(II)Z" } : Jvm.MethodName) prog_3_method_5_code (3 : Nat) (Option.some Jvm.ClassFile.FieldType.boolean)) ∈ lw_all := lw_g (lw_at lw_m1 228 rfl) rfl
theorem q254 : (Jvm.Cond.methodLink "PersistentGraphModel" (47 : Nat) ({ cls := "PersistentGraphModel", name := "committed", desc := "()I" } : Jvm.MethodName)) ∈ lw_all := lw_g (lw_at lw_m1 229 rfl) rfl
theorem q255 : (Jvm.Cond.privateMethod ({ cls := "PersistentGraphModel", name := "committed", desc := "()I" } : Jvm.MethodName)) ∈ lw_tbl := lw_at lw_m1 230 rfl
theorem q256 : (Jvm.Cond.instanceMethod ({ cls := "PersistentGraphModel", name := "committed", desc := "()I" } : Jvm.MethodName)) ∈ lw_all := lw_g (lw_at lw_m1 231 rfl) rfl
theorem q257 : (Jvm.Cond.code ({ cls := "PersistentGraphModel", name := "committed", desc := "()I" } : Jvm.MethodName) prog_3_method_7_code (2 : Nat) (Option.some Jvm.ClassFile.FieldType.int)) ∈ lw_all := lw_g (lw_at lw_m1 232 rfl) rfl
theorem q259 : (Jvm.Cond.instanceMethod ({ cls := "PersistentGraphModel", name := "getRoot", desc := "(I)I" } : Jvm.MethodName)) ∈ lw_all := lw_g (lw_at lw_m1 234 rfl) rfl
theorem q260 : (Jvm.Cond.selects "PersistentGraphModel" ({ cls := "PersistentGraphModel", name := "getRoot", desc := "(I)I" } : Jvm.MethodName) ({ cls := "PersistentGraphModel", name := "getRoot", desc := "(I)I" } : Jvm.MethodName)) ∈ lw_all := lw_g (lw_at lw_m1 235 rfl) rfl
theorem q261 : (Jvm.Cond.code ({ cls := "PersistentGraphModel", name := "getRoot", desc := "(I)I" } : Jvm.MethodName) prog_3_method_13_code (2 : Nat) (Option.some Jvm.ClassFile.FieldType.int)) ∈ lw_all := lw_g (lw_at lw_m1 236 rfl) rfl
theorem q262 : (Jvm.Cond.methodLink "PersistentGraphModel" (58 : Nat) ({ cls := "PersistentGraphModel", name := "leads", desc := "(I)I" } : Jvm.MethodName)) ∈ lw_all := lw_g (lw_at lw_m1 237 rfl) rfl
theorem q263 : (Jvm.Cond.privateMethod ({ cls := "PersistentGraphModel", name := "leads", desc := "(I)I" } : Jvm.MethodName)) ∈ lw_tbl := lw_at lw_m1 238 rfl
theorem q264 : (Jvm.Cond.instanceMethod ({ cls := "PersistentGraphModel", name := "leads", desc := "(I)I" } : Jvm.MethodName)) ∈ lw_all := lw_g (lw_at lw_m1 239 rfl) rfl
theorem q265 : (Jvm.Cond.code ({ cls := "PersistentGraphModel", name := "leads", desc := "(I)I" } : Jvm.MethodName) prog_3_method_12_code (2 : Nat) (Option.some Jvm.ClassFile.FieldType.int)) ∈ lw_all := lw_g (lw_at lw_m2 0 rfl) rfl
theorem q267 : (Jvm.Cond.instanceMethod ({ cls := "PersistentGraphModel", name := "setRoot", desc := "(I)I" } : Jvm.MethodName)) ∈ lw_all := lw_g (lw_at lw_m2 2 rfl) rfl
theorem q268 : (Jvm.Cond.selects "PersistentGraphModel" ({ cls := "PersistentGraphModel", name := "setRoot", desc := "(I)I" } : Jvm.MethodName) ({ cls := "PersistentGraphModel", name := "setRoot", desc := "(I)I" } : Jvm.MethodName)) ∈ lw_all := lw_g (lw_at lw_m2 3 rfl) rfl
theorem q269 : (Jvm.Cond.code ({ cls := "PersistentGraphModel", name := "setRoot", desc := "(I)I" } : Jvm.MethodName) prog_3_method_14_code (2 : Nat) (Option.some Jvm.ClassFile.FieldType.int)) ∈ lw_all := lw_g (lw_at lw_m2 4 rfl) rfl
theorem q271 : (Jvm.Cond.instanceMethod ({ cls := "PersistentGraphModel", name := "follow", desc := "(III)I" } : Jvm.MethodName)) ∈ lw_all := lw_g (lw_at lw_m2 6 rfl) rfl
theorem q272 : (Jvm.Cond.selects "PersistentGraphModel" ({ cls := "PersistentGraphModel", name := "follow", desc := "(III)I" } : Jvm.MethodName) ({ cls := "PersistentGraphModel", name := "follow", desc := "(III)I" } : Jvm.MethodName)) ∈ lw_all := lw_g (lw_at lw_m2 7 rfl) rfl
theorem q273 : (Jvm.Cond.code ({ cls := "PersistentGraphModel", name := "follow", desc := "(III)I" } : Jvm.MethodName) prog_3_method_15_code (4 : Nat) (Option.some Jvm.ClassFile.FieldType.int)) ∈ lw_all := lw_g (lw_at lw_m2 8 rfl) rfl
theorem q275 : (Jvm.Cond.instanceMethod ({ cls := "PersistentGraphModel", name := "link", desc := "(III)I" } : Jvm.MethodName)) ∈ lw_all := lw_g (lw_at lw_m2 10 rfl) rfl
theorem q276 : (Jvm.Cond.selects "PersistentGraphModel" ({ cls := "PersistentGraphModel", name := "link", desc := "(III)I" } : Jvm.MethodName) ({ cls := "PersistentGraphModel", name := "link", desc := "(III)I" } : Jvm.MethodName)) ∈ lw_all := lw_g (lw_at lw_m2 11 rfl) rfl
theorem q277 : (Jvm.Cond.code ({ cls := "PersistentGraphModel", name := "link", desc := "(III)I" } : Jvm.MethodName) prog_3_method_16_code (4 : Nat) (Option.some Jvm.ClassFile.FieldType.int)) ∈ lw_all := lw_g (lw_at lw_m2 12 rfl) rfl
theorem q279 : (Jvm.Cond.instanceMethod ({ cls := "PersistentGraphModel", name := "drop", desc := "(I)I" } : Jvm.MethodName)) ∈ lw_all := lw_g (lw_at lw_m2 14 rfl) rfl
theorem q280 : (Jvm.Cond.selects "PersistentGraphModel" ({ cls := "PersistentGraphModel", name := "drop", desc := "(I)I" } : Jvm.MethodName) ({ cls := "PersistentGraphModel", name := "drop", desc := "(I)I" } : Jvm.MethodName)) ∈ lw_all := lw_g (lw_at lw_m2 15 rfl) rfl
theorem q281 : (Jvm.Cond.code ({ cls := "PersistentGraphModel", name := "drop", desc := "(I)I" } : Jvm.MethodName) prog_3_method_17_code (3 : Nat) (Option.some Jvm.ClassFile.FieldType.int)) ∈ lw_all := lw_g (lw_at lw_m2 16 rfl) rfl
theorem q283 : (Jvm.Cond.instanceMethod ({ cls := "PersistentGraphModel", name := "value", desc := "(I)I" } : Jvm.MethodName)) ∈ lw_all := lw_g (lw_at lw_m2 18 rfl) rfl
theorem q284 : (Jvm.Cond.selects "PersistentGraphModel" ({ cls := "PersistentGraphModel", name := "value", desc := "(I)I" } : Jvm.MethodName) ({ cls := "PersistentGraphModel", name := "value", desc := "(I)I" } : Jvm.MethodName)) ∈ lw_all := lw_g (lw_at lw_m2 19 rfl) rfl
theorem q285 : (Jvm.Cond.code ({ cls := "PersistentGraphModel", name := "value", desc := "(I)I" } : Jvm.MethodName) prog_3_method_18_code (2 : Nat) (Option.some Jvm.ClassFile.FieldType.int)) ∈ lw_all := lw_g (lw_at lw_m2 20 rfl) rfl
theorem q287 : (Jvm.Cond.instanceMethod ({ cls := "PersistentGraphModel", name := "setValue", desc := "(II)I" } : Jvm.MethodName)) ∈ lw_all := lw_g (lw_at lw_m2 22 rfl) rfl
theorem q288 : (Jvm.Cond.selects "PersistentGraphModel" ({ cls := "PersistentGraphModel", name := "setValue", desc := "(II)I" } : Jvm.MethodName) ({ cls := "PersistentGraphModel", name := "setValue", desc := "(II)I" } : Jvm.MethodName)) ∈ lw_all := lw_g (lw_at lw_m2 23 rfl) rfl
theorem q289 : (Jvm.Cond.code ({ cls := "PersistentGraphModel", name := "setValue", desc := "(II)I" } : Jvm.MethodName) prog_3_method_19_code (3 : Nat) (Option.some Jvm.ClassFile.FieldType.int)) ∈ lw_all := lw_g (lw_at lw_m2 24 rfl) rfl
theorem q291 : (Jvm.Cond.instanceMethod ({ cls := "PersistentGraphModel", name := "same", desc := "(II)Z" } : Jvm.MethodName)) ∈ lw_all := lw_g (lw_at lw_m2 26 rfl) rfl
theorem q292 : (Jvm.Cond.selects "PersistentGraphModel" ({ cls := "PersistentGraphModel", name := "same", desc := "(II)Z" } : Jvm.MethodName) ({ cls := "PersistentGraphModel", name := "same", desc := "(II)Z" } : Jvm.MethodName)) ∈ lw_all := lw_g (lw_at lw_m2 27 rfl) rfl
theorem q293 : (Jvm.Cond.code ({ cls := "PersistentGraphModel", name := "same", desc := "(II)Z" } : Jvm.MethodName) prog_3_method_20_code (3 : Nat) (Option.some Jvm.ClassFile.FieldType.boolean)) ∈ lw_all := lw_g (lw_at lw_m2 28 rfl) rfl
theorem q295 : (Jvm.Cond.instanceMethod ({ cls := "PersistentGraphModel", name := "commit", desc := "()I" } : Jvm.MethodName)) ∈ lw_all := lw_g (lw_at lw_m2 30 rfl) rfl
theorem q296 : (Jvm.Cond.selects "PersistentGraphModel" ({ cls := "PersistentGraphModel", name := "commit", desc := "()I" } : Jvm.MethodName) ({ cls := "PersistentGraphModel", name := "commit", desc := "()I" } : Jvm.MethodName)) ∈ lw_all := lw_g (lw_at lw_m2 31 rfl) rfl
theorem q297 : (Jvm.Cond.code ({ cls := "PersistentGraphModel", name := "commit", desc := "()I" } : Jvm.MethodName) prog_3_method_22_code (4 : Nat) (Option.some Jvm.ClassFile.FieldType.int)) ∈ lw_all := lw_g (lw_at lw_m2 32 rfl) rfl
theorem q298 : (Jvm.Cond.methodLink "PersistentGraphModel" (64 : Nat) ({ cls := "PersistentGraphModel", name := "changed", desc := "()I" } : Jvm.MethodName)) ∈ lw_all := lw_g (lw_at lw_m2 33 rfl) rfl
theorem q299 : (Jvm.Cond.privateMethod ({ cls := "PersistentGraphModel", name := "changed", desc := "()I" } : Jvm.MethodName)) ∈ lw_tbl := lw_at lw_m2 34 rfl
theorem q300 : (Jvm.Cond.instanceMethod ({ cls := "PersistentGraphModel", name := "changed", desc := "()I" } : Jvm.MethodName)) ∈ lw_all := lw_g (lw_at lw_m2 35 rfl) rfl
theorem q301 : (Jvm.Cond.code ({ cls := "PersistentGraphModel", name := "changed", desc := "()I" } : Jvm.MethodName) prog_3_method_21_code (6 : Nat) (Option.some Jvm.ClassFile.FieldType.int)) ∈ lw_all := lw_g (lw_at lw_m2 36 rfl) rfl
theorem q302 : (Jvm.Cond.methodLink "PersistentGraphModel" (61 : Nat) ({ cls := "PersistentGraphModel", name := "reached", desc := "()I" } : Jvm.MethodName)) ∈ lw_all := lw_g (lw_at lw_m2 37 rfl) rfl
theorem q303 : (Jvm.Cond.privateMethod ({ cls := "PersistentGraphModel", name := "reached", desc := "()I" } : Jvm.MethodName)) ∈ lw_tbl := lw_at lw_m2 38 rfl
theorem q304 : (Jvm.Cond.instanceMethod ({ cls := "PersistentGraphModel", name := "reached", desc := "()I" } : Jvm.MethodName)) ∈ lw_all := lw_g (lw_at lw_m2 39 rfl) rfl
theorem q305 : (Jvm.Cond.code ({ cls := "PersistentGraphModel", name := "reached", desc := "()I" } : Jvm.MethodName) prog_3_method_8_code (2 : Nat) (Option.some Jvm.ClassFile.FieldType.int)) ∈ lw_all := lw_g (lw_at lw_m2 40 rfl) rfl
theorem q307 : (Jvm.Cond.instanceMethod ({ cls := "PersistentGraphModel", name := "abort", desc := "()I" } : Jvm.MethodName)) ∈ lw_all := lw_g (lw_at lw_m2 42 rfl) rfl
theorem q308 : (Jvm.Cond.selects "PersistentGraphModel" ({ cls := "PersistentGraphModel", name := "abort", desc := "()I" } : Jvm.MethodName) ({ cls := "PersistentGraphModel", name := "abort", desc := "()I" } : Jvm.MethodName)) ∈ lw_all := lw_g (lw_at lw_m2 43 rfl) rfl
theorem q309 : (Jvm.Cond.code ({ cls := "PersistentGraphModel", name := "abort", desc := "()I" } : Jvm.MethodName) prog_3_method_23_code (3 : Nat) (Option.some Jvm.ClassFile.FieldType.int)) ∈ lw_all := lw_g (lw_at lw_m2 44 rfl) rfl
theorem q310 : (Jvm.Cond.methodLink "PersistentGraphModel" (67 : Nat) ({ cls := "PersistentGraphModel", name := "sizeOf", desc := "(I)I" } : Jvm.MethodName)) ∈ lw_all := lw_g (lw_at lw_m2 45 rfl) rfl
theorem q311 : (Jvm.Cond.privateMethod ({ cls := "PersistentGraphModel", name := "sizeOf", desc := "(I)I" } : Jvm.MethodName)) ∈ lw_tbl := lw_at lw_m2 46 rfl
theorem q312 : (Jvm.Cond.instanceMethod ({ cls := "PersistentGraphModel", name := "sizeOf", desc := "(I)I" } : Jvm.MethodName)) ∈ lw_all := lw_g (lw_at lw_m2 47 rfl) rfl
theorem q313 : (Jvm.Cond.code ({ cls := "PersistentGraphModel", name := "sizeOf", desc := "(I)I" } : Jvm.MethodName) prog_3_method_10_code (4 : Nat) (Option.some Jvm.ClassFile.FieldType.int)) ∈ lw_all := lw_g (lw_at lw_m2 48 rfl) rfl
theorem q315 : (Jvm.Cond.instanceMethod ({ cls := "PersistentGraphModel", name := "crash", desc := "(I)I" } : Jvm.MethodName)) ∈ lw_all := lw_g (lw_at lw_m2 50 rfl) rfl
theorem q316 : (Jvm.Cond.selects "PersistentGraphModel" ({ cls := "PersistentGraphModel", name := "crash", desc := "(I)I" } : Jvm.MethodName) ({ cls := "PersistentGraphModel", name := "crash", desc := "(I)I" } : Jvm.MethodName)) ∈ lw_all := lw_g (lw_at lw_m2 51 rfl) rfl
theorem q317 : (Jvm.Cond.code ({ cls := "PersistentGraphModel", name := "crash", desc := "(I)I" } : Jvm.MethodName) prog_3_method_24_code (3 : Nat) (Option.some Jvm.ClassFile.FieldType.int)) ∈ lw_all := lw_g (lw_at lw_m2 52 rfl) rfl
theorem q318 : (Jvm.Cond.methodLink "PersistentGraphModel" (70 : Nat) ({ cls := "PersistentGraphModel", name := "commit", desc := "()I" } : Jvm.MethodName)) ∈ lw_all := lw_g (lw_at lw_m2 53 rfl) rfl
theorem q319 : (Jvm.Cond.methodLink "PersistentGraphModel" (73 : Nat) ({ cls := "PersistentGraphModel", name := "abort", desc := "()I" } : Jvm.MethodName)) ∈ lw_all := lw_g (lw_at lw_m2 54 rfl) rfl
theorem q321 : (Jvm.Cond.instanceMethod ({ cls := "PersistentGraphModel", name := "reachable", desc := "()I" } : Jvm.MethodName)) ∈ lw_all := lw_g (lw_at lw_m2 56 rfl) rfl
theorem q322 : (Jvm.Cond.selects "PersistentGraphModel" ({ cls := "PersistentGraphModel", name := "reachable", desc := "()I" } : Jvm.MethodName) ({ cls := "PersistentGraphModel", name := "reachable", desc := "()I" } : Jvm.MethodName)) ∈ lw_all := lw_g (lw_at lw_m2 57 rfl) rfl
theorem q323 : (Jvm.Cond.code ({ cls := "PersistentGraphModel", name := "reachable", desc := "()I" } : Jvm.MethodName) prog_3_method_25_code (2 : Nat) (Option.some Jvm.ClassFile.FieldType.int)) ∈ lw_all := lw_g (lw_at lw_m2 58 rfl) rfl
theorem in_X1 : ∀ w ∈ wsX10, w ∈ lw_all := lw_in wsX10 [215, 217, 219, 221, 223, 225, 227] (by decide +kernel) (by decide +kernel)
/-! java/lang/Object -/
def RJ0 : String := "java/lang/Object"
abbrev cJ0_init : ByteArray := object_method_1_code
def yJ0_init : MethodName := ⟨RJ0, "<init>", "()V"⟩
theorem q34 : (Jvm.Cond.instanceMethod ({ cls := "java/lang/Object", name := "<init>", desc := "()V" } : Jvm.MethodName)) ∈ lw_all := lw_g (lw_at lw_m1 9 rfl) rfl
theorem q35 : (Jvm.Cond.code ({ cls := "java/lang/Object", name := "<init>", desc := "()V" } : Jvm.MethodName) object_method_1_code (1 : Nat) (Option.none : Option Jvm.ClassFile.FieldType)) ∈ lw_all := lw_g (lw_at lw_m1 10 rfl) rfl
theorem q25 : (Jvm.Cond.initialized "PersistentGraphLaw") ∈ lw_all := lw_g (lw_at lw_m1 0 rfl) rfl
theorem q28 : (Jvm.Cond.classLink "PersistentGraphLaw" (7 : Nat) "PersistentGraph") ∈ lw_all := lw_g (lw_at lw_m1 3 rfl) rfl
theorem q30 : (Jvm.Cond.methodLink "PersistentGraphLaw" (9 : Nat) ({ cls := "PersistentGraph", name := "<init>", desc := "()V" } : Jvm.MethodName)) ∈ lw_all := lw_g (lw_at lw_m1 5 rfl) rfl
theorem q90 : (Jvm.Cond.methodLink "PersistentGraphLaw" (13 : Nat) ({ cls := "PersistentGraph", name := "make", desc := "(II)I" } : Jvm.MethodName)) ∈ lw_all := lw_g (lw_at lw_m1 65 rfl) rfl
theorem q118 : (Jvm.Cond.methodLink "PersistentGraphLaw" (18 : Nat) ({ cls := "PersistentGraph", name := "getRoot", desc := "(I)I" } : Jvm.MethodName)) ∈ lw_all := lw_g (lw_at lw_m1 93 rfl) rfl
theorem q122 : (Jvm.Cond.methodLink "PersistentGraphLaw" (23 : Nat) ({ cls := "PersistentGraph", name := "setRoot", desc := "(I)I" } : Jvm.MethodName)) ∈ lw_all := lw_g (lw_at lw_m1 97 rfl) rfl
theorem q126 : (Jvm.Cond.methodLink "PersistentGraphLaw" (27 : Nat) ({ cls := "PersistentGraph", name := "follow", desc := "(III)I" } : Jvm.MethodName)) ∈ lw_all := lw_g (lw_at lw_m1 101 rfl) rfl
theorem q134 : (Jvm.Cond.methodLink "PersistentGraphLaw" (32 : Nat) ({ cls := "PersistentGraph", name := "link", desc := "(III)I" } : Jvm.MethodName)) ∈ lw_all := lw_g (lw_at lw_m1 109 rfl) rfl
theorem q138 : (Jvm.Cond.methodLink "PersistentGraphLaw" (36 : Nat) ({ cls := "PersistentGraph", name := "drop", desc := "(I)I" } : Jvm.MethodName)) ∈ lw_all := lw_g (lw_at lw_m1 113 rfl) rfl
theorem q142 : (Jvm.Cond.methodLink "PersistentGraphLaw" (40 : Nat) ({ cls := "PersistentGraph", name := "value", desc := "(I)I" } : Jvm.MethodName)) ∈ lw_all := lw_g (lw_at lw_m1 117 rfl) rfl
theorem q146 : (Jvm.Cond.methodLink "PersistentGraphLaw" (44 : Nat) ({ cls := "PersistentGraph", name := "setValue", desc := "(II)I" } : Jvm.MethodName)) ∈ lw_all := lw_g (lw_at lw_m1 121 rfl) rfl
theorem q150 : (Jvm.Cond.methodLink "PersistentGraphLaw" (48 : Nat) ({ cls := "PersistentGraph", name := "same", desc := "(II)Z" } : Jvm.MethodName)) ∈ lw_all := lw_g (lw_at lw_m1 125 rfl) rfl
theorem q154 : (Jvm.Cond.methodLink "PersistentGraphLaw" (53 : Nat) ({ cls := "PersistentGraph", name := "commit", desc := "()I" } : Jvm.MethodName)) ∈ lw_all := lw_g (lw_at lw_m1 129 rfl) rfl
theorem q178 : (Jvm.Cond.methodLink "PersistentGraphLaw" (58 : Nat) ({ cls := "PersistentGraph", name := "abort", desc := "()I" } : Jvm.MethodName)) ∈ lw_all := lw_g (lw_at lw_m1 153 rfl) rfl
theorem q186 : (Jvm.Cond.methodLink "PersistentGraphLaw" (62 : Nat) ({ cls := "PersistentGraph", name := "crash", desc := "(I)I" } : Jvm.MethodName)) ∈ lw_all := lw_g (lw_at lw_m1 161 rfl) rfl
theorem q194 : (Jvm.Cond.methodLink "PersistentGraphLaw" (66 : Nat) ({ cls := "PersistentGraph", name := "reachable", desc := "()I" } : Jvm.MethodName)) ∈ lw_all := lw_g (lw_at lw_m1 169 rfl) rfl
theorem q198 : (Jvm.Cond.classLink "PersistentGraphLaw" (10 : Nat) "PersistentGraphModel") ∈ lw_all := lw_g (lw_at lw_m1 173 rfl) rfl
theorem q200 : (Jvm.Cond.methodLink "PersistentGraphLaw" (12 : Nat) ({ cls := "PersistentGraphModel", name := "<init>", desc := "()V" } : Jvm.MethodName)) ∈ lw_all := lw_g (lw_at lw_m1 175 rfl) rfl
theorem q230 : (Jvm.Cond.methodLink "PersistentGraphLaw" (17 : Nat) ({ cls := "PersistentGraphModel", name := "make", desc := "(II)I" } : Jvm.MethodName)) ∈ lw_all := lw_g (lw_at lw_m1 205 rfl) rfl
theorem q258 : (Jvm.Cond.methodLink "PersistentGraphLaw" (22 : Nat) ({ cls := "PersistentGraphModel", name := "getRoot", desc := "(I)I" } : Jvm.MethodName)) ∈ lw_all := lw_g (lw_at lw_m1 233 rfl) rfl
theorem q266 : (Jvm.Cond.methodLink "PersistentGraphLaw" (26 : Nat) ({ cls := "PersistentGraphModel", name := "setRoot", desc := "(I)I" } : Jvm.MethodName)) ∈ lw_all := lw_g (lw_at lw_m2 1 rfl) rfl
theorem q270 : (Jvm.Cond.methodLink "PersistentGraphLaw" (31 : Nat) ({ cls := "PersistentGraphModel", name := "follow", desc := "(III)I" } : Jvm.MethodName)) ∈ lw_all := lw_g (lw_at lw_m2 5 rfl) rfl
theorem q274 : (Jvm.Cond.methodLink "PersistentGraphLaw" (35 : Nat) ({ cls := "PersistentGraphModel", name := "link", desc := "(III)I" } : Jvm.MethodName)) ∈ lw_all := lw_g (lw_at lw_m2 9 rfl) rfl
theorem q278 : (Jvm.Cond.methodLink "PersistentGraphLaw" (39 : Nat) ({ cls := "PersistentGraphModel", name := "drop", desc := "(I)I" } : Jvm.MethodName)) ∈ lw_all := lw_g (lw_at lw_m2 13 rfl) rfl
theorem q282 : (Jvm.Cond.methodLink "PersistentGraphLaw" (43 : Nat) ({ cls := "PersistentGraphModel", name := "value", desc := "(I)I" } : Jvm.MethodName)) ∈ lw_all := lw_g (lw_at lw_m2 17 rfl) rfl
theorem q286 : (Jvm.Cond.methodLink "PersistentGraphLaw" (47 : Nat) ({ cls := "PersistentGraphModel", name := "setValue", desc := "(II)I" } : Jvm.MethodName)) ∈ lw_all := lw_g (lw_at lw_m2 21 rfl) rfl
theorem q290 : (Jvm.Cond.methodLink "PersistentGraphLaw" (52 : Nat) ({ cls := "PersistentGraphModel", name := "same", desc := "(II)Z" } : Jvm.MethodName)) ∈ lw_all := lw_g (lw_at lw_m2 25 rfl) rfl
theorem q294 : (Jvm.Cond.methodLink "PersistentGraphLaw" (57 : Nat) ({ cls := "PersistentGraphModel", name := "commit", desc := "()I" } : Jvm.MethodName)) ∈ lw_all := lw_g (lw_at lw_m2 29 rfl) rfl
theorem q306 : (Jvm.Cond.methodLink "PersistentGraphLaw" (61 : Nat) ({ cls := "PersistentGraphModel", name := "abort", desc := "()I" } : Jvm.MethodName)) ∈ lw_all := lw_g (lw_at lw_m2 41 rfl) rfl
theorem q314 : (Jvm.Cond.methodLink "PersistentGraphLaw" (65 : Nat) ({ cls := "PersistentGraphModel", name := "crash", desc := "(I)I" } : Jvm.MethodName)) ∈ lw_all := lw_g (lw_at lw_m2 49 rfl) rfl
theorem q320 : (Jvm.Cond.methodLink "PersistentGraphLaw" (69 : Nat) ({ cls := "PersistentGraphModel", name := "reachable", desc := "()I" } : Jvm.MethodName)) ∈ lw_all := lw_g (lw_at lw_m2 55 rfl) rfl
theorem q88 : (Jvm.Cond.arrayClass Jvm.ClassFile.FieldType.int) ∈ lw_all := lw_g (lw_at lw_m1 63 rfl) rfl
theorem q89 : (Jvm.Cond.arrayClass Jvm.ClassFile.FieldType.byte) ∈ lw_all := lw_g (lw_at lw_m1 64 rfl) rfl
/-! the law's own entry -/
abbrev cL_law : ByteArray := code
abbrev vwCl : List vw_C := [(RX0, TX0, 17), (RX1, TX1, 7)]
end
section
set_option maxRecDepth 100000
theorem dX0_init_0 : decode cX0_init 0 = .ok (.aload_n 0, 1) := by decide +kernel
theorem dX0_init_1 : decode cX0_init 1 = .ok (.invokespecial 1, 3) := by decide +kernel
theorem dX0_init_4 : decode cX0_init 4 = .ok (.aload_n 0, 1) := by decide +kernel
theorem dX0_init_5 : decode cX0_init 5 = .ok (.bipush 12, 2) := by decide +kernel
theorem dX0_init_7 : decode cX0_init 7 = .ok (.newarray .int, 2) := by decide +kernel
theorem dX0_init_9 : decode cX0_init 9 = .ok (.putfield 7, 3) := by decide +kernel
theorem dX0_init_12 : decode cX0_init 12 = .ok (.aload_n 0, 1) := by decide +kernel
theorem dX0_init_13 : decode cX0_init 13 = .ok (.bipush 24, 2) := by decide +kernel
theorem dX0_init_15 : decode cX0_init 15 = .ok (.newarray .byte, 2) := by decide +kernel
theorem dX0_init_17 : decode cX0_init 17 = .ok (.putfield 13, 3) := by decide +kernel
theorem dX0_init_20 : decode cX0_init 20 = .ok (.aload_n 0, 1) := by decide +kernel
theorem dX0_init_21 : decode cX0_init 21 = .ok (.bipush 12, 2) := by decide +kernel
theorem dX0_init_23 : decode cX0_init 23 = .ok (.newarray .byte, 2) := by decide +kernel
theorem dX0_init_25 : decode cX0_init 25 = .ok (.putfield 17, 3) := by decide +kernel
theorem dX0_init_28 : decode cX0_init 28 = .ok (.aload_n 0, 1) := by decide +kernel
theorem dX0_init_29 : decode cX0_init 29 = .ok (.bipush 12, 2) := by decide +kernel
theorem dX0_init_31 : decode cX0_init 31 = .ok (.newarray .int, 2) := by decide +kernel
theorem dX0_init_33 : decode cX0_init 33 = .ok (.putfield 20, 3) := by decide +kernel
theorem dX0_init_36 : decode cX0_init 36 = .ok (.aload_n 0, 1) := by decide +kernel
theorem dX0_init_37 : decode cX0_init 37 = .ok (.bipush 24, 2) := by decide +kernel
theorem dX0_init_39 : decode cX0_init 39 = .ok (.newarray .byte, 2) := by decide +kernel
theorem dX0_init_41 : decode cX0_init 41 = .ok (.putfield 23, 3) := by decide +kernel
theorem dX0_init_44 : decode cX0_init 44 = .ok (.aload_n 0, 1) := by decide +kernel
theorem dX0_init_45 : decode cX0_init 45 = .ok (.bipush 12, 2) := by decide +kernel
theorem dX0_init_47 : decode cX0_init 47 = .ok (.newarray .int, 2) := by decide +kernel
theorem dX0_init_49 : decode cX0_init 49 = .ok (.putfield 26, 3) := by decide +kernel
theorem dX0_init_52 : decode cX0_init 52 = .ok (.aload_n 0, 1) := by decide +kernel
theorem dX0_init_53 : decode cX0_init 53 = .ok (.bipush 24, 2) := by decide +kernel
theorem dX0_init_55 : decode cX0_init 55 = .ok (.newarray .byte, 2) := by decide +kernel
theorem dX0_init_57 : decode cX0_init 57 = .ok (.putfield 29, 3) := by decide +kernel
theorem dX0_init_60 : decode cX0_init 60 = .ok (.aload_n 0, 1) := by decide +kernel
theorem dX0_init_61 : decode cX0_init 61 = .ok (.iconst 4, 1) := by decide +kernel
theorem dX0_init_62 : decode cX0_init 62 = .ok (.newarray .byte, 2) := by decide +kernel
theorem dX0_init_64 : decode cX0_init 64 = .ok (.putfield 32, 3) := by decide +kernel
theorem dX0_init_67 : decode cX0_init 67 = .ok (.aload_n 0, 1) := by decide +kernel
theorem dX0_init_68 : decode cX0_init 68 = .ok (.iconst (-1), 1) := by decide +kernel
theorem dX0_init_69 : decode cX0_init 69 = .ok (.putfield 35, 3) := by decide +kernel
theorem dX0_init_72 : decode cX0_init 72 = .ok (.aload_n 0, 1) := by decide +kernel
theorem dX0_init_73 : decode cX0_init 73 = .ok (.iconst (-1), 1) := by decide +kernel
theorem dX0_init_74 : decode cX0_init 74 = .ok (.putfield 39, 3) := by decide +kernel
theorem dX0_init_77 : decode cX0_init 77 = .ok (.iconst 0, 1) := by decide +kernel
theorem dX0_init_78 : decode cX0_init 78 = .ok (.istore_n 1, 1) := by decide +kernel
theorem dX0_init_79 : decode cX0_init 79 = .ok (.iload_n 1, 1) := by decide +kernel
theorem dX0_init_80 : decode cX0_init 80 = .ok (.iconst 4, 1) := by decide +kernel
theorem dX0_init_81 : decode cX0_init 81 = .ok (.if_icmp .ge 16, 3) := by decide +kernel
theorem dX0_init_84 : decode cX0_init 84 = .ok (.aload_n 0, 1) := by decide +kernel
theorem dX0_init_85 : decode cX0_init 85 = .ok (.getfield 32, 3) := by decide +kernel
theorem dX0_init_88 : decode cX0_init 88 = .ok (.iload_n 1, 1) := by decide +kernel
theorem dX0_init_89 : decode cX0_init 89 = .ok (.iconst (-1), 1) := by decide +kernel
theorem dX0_init_90 : decode cX0_init 90 = .ok (.bastore, 1) := by decide +kernel
theorem dX0_init_91 : decode cX0_init 91 = .ok (.iinc 1 1, 3) := by decide +kernel
theorem dX0_init_94 : decode cX0_init 94 = .ok (.goto (-15), 3) := by decide +kernel
theorem dX0_init_97 : decode cX0_init 97 = .ok (.return_, 1) := by decide +kernel
theorem dX0_make_0 : decode cX0_make 0 = .ok (.aload_n 0, 1) := by decide +kernel
theorem dX0_make_1 : decode cX0_make 1 = .ok (.iload_n 1, 1) := by decide +kernel
theorem dX0_make_2 : decode cX0_make 2 = .ok (.invokevirtual 42, 3) := by decide +kernel
theorem dX0_make_5 : decode cX0_make 5 = .ok (.ifCond .ne 5, 3) := by decide +kernel
theorem dX0_make_8 : decode cX0_make 8 = .ok (.iconst (-1), 1) := by decide +kernel
theorem dX0_make_9 : decode cX0_make 9 = .ok (.ireturn, 1) := by decide +kernel
theorem dX0_make_10 : decode cX0_make 10 = .ok (.aload_n 0, 1) := by decide +kernel
theorem dX0_make_11 : decode cX0_make 11 = .ok (.invokevirtual 46, 3) := by decide +kernel
theorem dX0_make_14 : decode cX0_make 14 = .ok (.istore_n 3, 1) := by decide +kernel
theorem dX0_make_15 : decode cX0_make 15 = .ok (.aload_n 0, 1) := by decide +kernel
theorem dX0_make_16 : decode cX0_make 16 = .ok (.iload_n 3, 1) := by decide +kernel
theorem dX0_make_17 : decode cX0_make 17 = .ok (.invokevirtual 50, 3) := by decide +kernel
theorem dX0_make_20 : decode cX0_make 20 = .ok (.bipush 12, 2) := by decide +kernel
theorem dX0_make_22 : decode cX0_make 22 = .ok (.if_icmp .lt 6, 3) := by decide +kernel
theorem dX0_make_25 : decode cX0_make 25 = .ok (.bipush (-2), 2) := by decide +kernel
theorem dX0_make_27 : decode cX0_make 27 = .ok (.ireturn, 1) := by decide +kernel
theorem dX0_make_28 : decode cX0_make 28 = .ok (.aload_n 0, 1) := by decide +kernel
theorem dX0_make_29 : decode cX0_make 29 = .ok (.iload_n 3, 1) := by decide +kernel
theorem dX0_make_30 : decode cX0_make 30 = .ok (.invokevirtual 54, 3) := by decide +kernel
theorem dX0_make_33 : decode cX0_make 33 = .ok (.istore 4, 2) := by decide +kernel
theorem dX0_make_35 : decode cX0_make 35 = .ok (.aload_n 0, 1) := by decide +kernel
theorem dX0_make_36 : decode cX0_make 36 = .ok (.dup, 1) := by decide +kernel
theorem dX0_make_37 : decode cX0_make 37 = .ok (.getfield 57, 3) := by decide +kernel
theorem dX0_make_40 : decode cX0_make 40 = .ok (.iconst 1, 1) := by decide +kernel
theorem dX0_make_41 : decode cX0_make 41 = .ok (.iload 4, 2) := by decide +kernel
theorem dX0_make_43 : decode cX0_make 43 = .ok (.ishl, 1) := by decide +kernel
theorem dX0_make_44 : decode cX0_make 44 = .ok (.ior, 1) := by decide +kernel
theorem dX0_make_45 : decode cX0_make 45 = .ok (.putfield 57, 3) := by decide +kernel
theorem dX0_make_48 : decode cX0_make 48 = .ok (.aload_n 0, 1) := by decide +kernel
theorem dX0_make_49 : decode cX0_make 49 = .ok (.dup, 1) := by decide +kernel
theorem dX0_make_50 : decode cX0_make 50 = .ok (.getfield 60, 3) := by decide +kernel
theorem dX0_make_53 : decode cX0_make 53 = .ok (.iconst 1, 1) := by decide +kernel
theorem dX0_make_54 : decode cX0_make 54 = .ok (.iload 4, 2) := by decide +kernel
theorem dX0_make_56 : decode cX0_make 56 = .ok (.ishl, 1) := by decide +kernel
theorem dX0_make_57 : decode cX0_make 57 = .ok (.ior, 1) := by decide +kernel
theorem dX0_make_58 : decode cX0_make 58 = .ok (.putfield 60, 3) := by decide +kernel
theorem dX0_make_61 : decode cX0_make 61 = .ok (.aload_n 0, 1) := by decide +kernel
theorem dX0_make_62 : decode cX0_make 62 = .ok (.getfield 26, 3) := by decide +kernel
theorem dX0_make_65 : decode cX0_make 65 = .ok (.iload 4, 2) := by decide +kernel
theorem dX0_make_67 : decode cX0_make 67 = .ok (.iload_n 2, 1) := by decide +kernel
theorem dX0_make_68 : decode cX0_make 68 = .ok (.iastore, 1) := by decide +kernel
theorem dX0_make_69 : decode cX0_make 69 = .ok (.aload_n 0, 1) := by decide +kernel
theorem dX0_make_70 : decode cX0_make 70 = .ok (.getfield 29, 3) := by decide +kernel
theorem dX0_make_73 : decode cX0_make 73 = .ok (.iconst 2, 1) := by decide +kernel
theorem dX0_make_74 : decode cX0_make 74 = .ok (.iload 4, 2) := by decide +kernel
theorem dX0_make_76 : decode cX0_make 76 = .ok (.imul, 1) := by decide +kernel
theorem dX0_make_77 : decode cX0_make 77 = .ok (.iconst (-1), 1) := by decide +kernel
theorem dX0_make_78 : decode cX0_make 78 = .ok (.bastore, 1) := by decide +kernel
theorem dX0_make_79 : decode cX0_make 79 = .ok (.aload_n 0, 1) := by decide +kernel
theorem dX0_make_80 : decode cX0_make 80 = .ok (.getfield 29, 3) := by decide +kernel
theorem dX0_make_83 : decode cX0_make 83 = .ok (.iconst 2, 1) := by decide +kernel
theorem dX0_make_84 : decode cX0_make 84 = .ok (.iload 4, 2) := by decide +kernel
theorem dX0_make_86 : decode cX0_make 86 = .ok (.imul, 1) := by decide +kernel
theorem dX0_make_87 : decode cX0_make 87 = .ok (.iconst 1, 1) := by decide +kernel
theorem dX0_make_88 : decode cX0_make 88 = .ok (.iadd, 1) := by decide +kernel
theorem dX0_make_89 : decode cX0_make 89 = .ok (.iconst (-1), 1) := by decide +kernel
theorem dX0_make_90 : decode cX0_make 90 = .ok (.bastore, 1) := by decide +kernel
theorem dX0_make_91 : decode cX0_make 91 = .ok (.aload_n 0, 1) := by decide +kernel
theorem dX0_make_92 : decode cX0_make 92 = .ok (.getfield 32, 3) := by decide +kernel
theorem dX0_make_95 : decode cX0_make 95 = .ok (.iload_n 1, 1) := by decide +kernel
theorem dX0_make_96 : decode cX0_make 96 = .ok (.iload 4, 2) := by decide +kernel
theorem dX0_make_98 : decode cX0_make 98 = .ok (.i2b, 1) := by decide +kernel
theorem dX0_make_99 : decode cX0_make 99 = .ok (.bastore, 1) := by decide +kernel
theorem dX0_make_100 : decode cX0_make 100 = .ok (.iload_n 1, 1) := by decide +kernel
theorem dX0_make_101 : decode cX0_make 101 = .ok (.ireturn, 1) := by decide +kernel
theorem dX0_isHandle_0 : decode cX0_isHandle 0 = .ok (.iload_n 1, 1) := by decide +kernel
theorem dX0_isHandle_1 : decode cX0_isHandle 1 = .ok (.ifCond .lt 12, 3) := by decide +kernel
theorem dX0_isHandle_4 : decode cX0_isHandle 4 = .ok (.iload_n 1, 1) := by decide +kernel
theorem dX0_isHandle_5 : decode cX0_isHandle 5 = .ok (.iconst 3, 1) := by decide +kernel
theorem dX0_isHandle_6 : decode cX0_isHandle 6 = .ok (.if_icmp .gt 7, 3) := by decide +kernel
theorem dX0_isHandle_9 : decode cX0_isHandle 9 = .ok (.iconst 1, 1) := by decide +kernel
theorem dX0_isHandle_10 : decode cX0_isHandle 10 = .ok (.goto 4, 3) := by decide +kernel
theorem dX0_isHandle_13 : decode cX0_isHandle 13 = .ok (.iconst 0, 1) := by decide +kernel
theorem dX0_isHandle_14 : decode cX0_isHandle 14 = .ok (.ireturn, 1) := by decide +kernel
theorem dX0_usedPlaces_0 : decode cX0_usedPlaces 0 = .ok (.aload_n 0, 1) := by decide +kernel
theorem dX0_usedPlaces_1 : decode cX0_usedPlaces 1 = .ok (.getfield 39, 3) := by decide +kernel
theorem dX0_usedPlaces_4 : decode cX0_usedPlaces 4 = .ok (.ifCond .ge 7, 3) := by decide +kernel
theorem dX0_usedPlaces_7 : decode cX0_usedPlaces 7 = .ok (.iconst 0, 1) := by decide +kernel
theorem dX0_usedPlaces_8 : decode cX0_usedPlaces 8 = .ok (.goto 9, 3) := by decide +kernel
theorem dX0_usedPlaces_11 : decode cX0_usedPlaces 11 = .ok (.iconst 1, 1) := by decide +kernel
theorem dX0_usedPlaces_12 : decode cX0_usedPlaces 12 = .ok (.aload_n 0, 1) := by decide +kernel
theorem dX0_usedPlaces_13 : decode cX0_usedPlaces 13 = .ok (.getfield 39, 3) := by decide +kernel
theorem dX0_usedPlaces_16 : decode cX0_usedPlaces 16 = .ok (.ishl, 1) := by decide +kernel
theorem dX0_usedPlaces_17 : decode cX0_usedPlaces 17 = .ok (.istore_n 1, 1) := by decide +kernel
theorem dX0_usedPlaces_18 : decode cX0_usedPlaces 18 = .ok (.iconst 0, 1) := by decide +kernel
theorem dX0_usedPlaces_19 : decode cX0_usedPlaces 19 = .ok (.istore_n 2, 1) := by decide +kernel
theorem dX0_usedPlaces_20 : decode cX0_usedPlaces 20 = .ok (.iload_n 2, 1) := by decide +kernel
theorem dX0_usedPlaces_21 : decode cX0_usedPlaces 21 = .ok (.iconst 4, 1) := by decide +kernel
theorem dX0_usedPlaces_22 : decode cX0_usedPlaces 22 = .ok (.if_icmp .ge 29, 3) := by decide +kernel
theorem dX0_usedPlaces_25 : decode cX0_usedPlaces 25 = .ok (.aload_n 0, 1) := by decide +kernel
theorem dX0_usedPlaces_26 : decode cX0_usedPlaces 26 = .ok (.getfield 32, 3) := by decide +kernel
theorem dX0_usedPlaces_29 : decode cX0_usedPlaces 29 = .ok (.iload_n 2, 1) := by decide +kernel
theorem dX0_usedPlaces_30 : decode cX0_usedPlaces 30 = .ok (.baload, 1) := by decide +kernel
theorem dX0_usedPlaces_31 : decode cX0_usedPlaces 31 = .ok (.ifCond .lt 14, 3) := by decide +kernel
theorem dX0_usedPlaces_34 : decode cX0_usedPlaces 34 = .ok (.iload_n 1, 1) := by decide +kernel
theorem dX0_usedPlaces_35 : decode cX0_usedPlaces 35 = .ok (.iconst 1, 1) := by decide +kernel
theorem dX0_usedPlaces_36 : decode cX0_usedPlaces 36 = .ok (.aload_n 0, 1) := by decide +kernel
theorem dX0_usedPlaces_37 : decode cX0_usedPlaces 37 = .ok (.getfield 32, 3) := by decide +kernel
theorem dX0_usedPlaces_40 : decode cX0_usedPlaces 40 = .ok (.iload_n 2, 1) := by decide +kernel
theorem dX0_usedPlaces_41 : decode cX0_usedPlaces 41 = .ok (.baload, 1) := by decide +kernel
theorem dX0_usedPlaces_42 : decode cX0_usedPlaces 42 = .ok (.ishl, 1) := by decide +kernel
theorem dX0_usedPlaces_43 : decode cX0_usedPlaces 43 = .ok (.ior, 1) := by decide +kernel
theorem dX0_usedPlaces_44 : decode cX0_usedPlaces 44 = .ok (.istore_n 1, 1) := by decide +kernel
theorem dX0_usedPlaces_45 : decode cX0_usedPlaces 45 = .ok (.iinc 2 1, 3) := by decide +kernel
theorem dX0_usedPlaces_48 : decode cX0_usedPlaces 48 = .ok (.goto (-28), 3) := by decide +kernel
theorem dX0_usedPlaces_51 : decode cX0_usedPlaces 51 = .ok (.aload_n 0, 1) := by decide +kernel
theorem dX0_usedPlaces_52 : decode cX0_usedPlaces 52 = .ok (.iload_n 1, 1) := by decide +kernel
theorem dX0_usedPlaces_53 : decode cX0_usedPlaces 53 = .ok (.invokevirtual 96, 3) := by decide +kernel
theorem dX0_usedPlaces_56 : decode cX0_usedPlaces 56 = .ok (.istore_n 2, 1) := by decide +kernel
theorem dX0_usedPlaces_57 : decode cX0_usedPlaces 57 = .ok (.iload_n 2, 1) := by decide +kernel
theorem dX0_usedPlaces_58 : decode cX0_usedPlaces 58 = .ok (.aload_n 0, 1) := by decide +kernel
theorem dX0_usedPlaces_59 : decode cX0_usedPlaces 59 = .ok (.getfield 90, 3) := by decide +kernel
theorem dX0_usedPlaces_62 : decode cX0_usedPlaces 62 = .ok (.ior, 1) := by decide +kernel
theorem dX0_usedPlaces_63 : decode cX0_usedPlaces 63 = .ok (.ireturn, 1) := by decide +kernel
theorem dX0_closure_0 : decode cX0_closure 0 = .ok (.iload_n 1, 1) := by decide +kernel
theorem dX0_closure_1 : decode cX0_closure 1 = .ok (.istore_n 2, 1) := by decide +kernel
theorem dX0_closure_2 : decode cX0_closure 2 = .ok (.iconst 0, 1) := by decide +kernel
theorem dX0_closure_3 : decode cX0_closure 3 = .ok (.istore_n 3, 1) := by decide +kernel
theorem dX0_closure_4 : decode cX0_closure 4 = .ok (.iconst 0, 1) := by decide +kernel
theorem dX0_closure_5 : decode cX0_closure 5 = .ok (.istore 4, 2) := by decide +kernel
theorem dX0_closure_7 : decode cX0_closure 7 = .ok (.iload 4, 2) := by decide +kernel
theorem dX0_closure_9 : decode cX0_closure 9 = .ok (.bipush 13, 2) := by decide +kernel
theorem dX0_closure_11 : decode cX0_closure 11 = .ok (.if_icmp .ge 86, 3) := by decide +kernel
theorem dX0_closure_14 : decode cX0_closure 14 = .ok (.iload_n 2, 1) := by decide +kernel
theorem dX0_closure_15 : decode cX0_closure 15 = .ok (.iload_n 3, 1) := by decide +kernel
theorem dX0_closure_16 : decode cX0_closure 16 = .ok (.if_icmp .eq 81, 3) := by decide +kernel
theorem dX0_closure_19 : decode cX0_closure 19 = .ok (.iload_n 2, 1) := by decide +kernel
theorem dX0_closure_20 : decode cX0_closure 20 = .ok (.istore_n 3, 1) := by decide +kernel
theorem dX0_closure_21 : decode cX0_closure 21 = .ok (.iconst 0, 1) := by decide +kernel
theorem dX0_closure_22 : decode cX0_closure 22 = .ok (.istore 5, 2) := by decide +kernel
theorem dX0_closure_24 : decode cX0_closure 24 = .ok (.iload 5, 2) := by decide +kernel
theorem dX0_closure_26 : decode cX0_closure 26 = .ok (.bipush 12, 2) := by decide +kernel
theorem dX0_closure_28 : decode cX0_closure 28 = .ok (.if_icmp .ge 63, 3) := by decide +kernel
theorem dX0_closure_31 : decode cX0_closure 31 = .ok (.iload_n 2, 1) := by decide +kernel
theorem dX0_closure_32 : decode cX0_closure 32 = .ok (.iload 5, 2) := by decide +kernel
theorem dX0_closure_34 : decode cX0_closure 34 = .ok (.ishr, 1) := by decide +kernel
theorem dX0_closure_35 : decode cX0_closure 35 = .ok (.iconst 1, 1) := by decide +kernel
theorem dX0_closure_36 : decode cX0_closure 36 = .ok (.iand, 1) := by decide +kernel
theorem dX0_closure_37 : decode cX0_closure 37 = .ok (.ifCond .ne 6, 3) := by decide +kernel
theorem dX0_closure_40 : decode cX0_closure 40 = .ok (.goto 45, 3) := by decide +kernel
theorem dX0_closure_43 : decode cX0_closure 43 = .ok (.aload_n 0, 1) := by decide +kernel
theorem dX0_closure_44 : decode cX0_closure 44 = .ok (.iload 5, 2) := by decide +kernel
theorem dX0_closure_46 : decode cX0_closure 46 = .ok (.iconst 0, 1) := by decide +kernel
theorem dX0_closure_47 : decode cX0_closure 47 = .ok (.invokevirtual 99, 3) := by decide +kernel
theorem dX0_closure_50 : decode cX0_closure 50 = .ok (.istore 6, 2) := by decide +kernel
theorem dX0_closure_52 : decode cX0_closure 52 = .ok (.aload_n 0, 1) := by decide +kernel
theorem dX0_closure_53 : decode cX0_closure 53 = .ok (.iload 5, 2) := by decide +kernel
theorem dX0_closure_55 : decode cX0_closure 55 = .ok (.iconst 1, 1) := by decide +kernel
theorem dX0_closure_56 : decode cX0_closure 56 = .ok (.invokevirtual 99, 3) := by decide +kernel
theorem dX0_closure_59 : decode cX0_closure 59 = .ok (.istore 7, 2) := by decide +kernel
theorem dX0_closure_61 : decode cX0_closure 61 = .ok (.iload 6, 2) := by decide +kernel
theorem dX0_closure_63 : decode cX0_closure 63 = .ok (.ifCond .lt 10, 3) := by decide +kernel
theorem dX0_closure_66 : decode cX0_closure 66 = .ok (.iload_n 2, 1) := by decide +kernel
theorem dX0_closure_67 : decode cX0_closure 67 = .ok (.iconst 1, 1) := by decide +kernel
theorem dX0_closure_68 : decode cX0_closure 68 = .ok (.iload 6, 2) := by decide +kernel
theorem dX0_closure_70 : decode cX0_closure 70 = .ok (.ishl, 1) := by decide +kernel
theorem dX0_closure_71 : decode cX0_closure 71 = .ok (.ior, 1) := by decide +kernel
theorem dX0_closure_72 : decode cX0_closure 72 = .ok (.istore_n 2, 1) := by decide +kernel
theorem dX0_closure_73 : decode cX0_closure 73 = .ok (.iload 7, 2) := by decide +kernel
theorem dX0_closure_75 : decode cX0_closure 75 = .ok (.ifCond .lt 10, 3) := by decide +kernel
theorem dX0_closure_78 : decode cX0_closure 78 = .ok (.iload_n 2, 1) := by decide +kernel
theorem dX0_closure_79 : decode cX0_closure 79 = .ok (.iconst 1, 1) := by decide +kernel
theorem dX0_closure_80 : decode cX0_closure 80 = .ok (.iload 7, 2) := by decide +kernel
theorem dX0_closure_82 : decode cX0_closure 82 = .ok (.ishl, 1) := by decide +kernel
theorem dX0_closure_83 : decode cX0_closure 83 = .ok (.ior, 1) := by decide +kernel
theorem dX0_closure_84 : decode cX0_closure 84 = .ok (.istore_n 2, 1) := by decide +kernel
theorem dX0_closure_85 : decode cX0_closure 85 = .ok (.iinc 5 1, 3) := by decide +kernel
theorem dX0_closure_88 : decode cX0_closure 88 = .ok (.goto (-64), 3) := by decide +kernel
theorem dX0_closure_91 : decode cX0_closure 91 = .ok (.iinc 4 1, 3) := by decide +kernel
theorem dX0_closure_94 : decode cX0_closure 94 = .ok (.goto (-87), 3) := by decide +kernel
theorem dX0_closure_97 : decode cX0_closure 97 = .ok (.iload_n 2, 1) := by decide +kernel
theorem dX0_closure_98 : decode cX0_closure 98 = .ok (.ireturn, 1) := by decide +kernel
theorem dX0_linkOf_0 : decode cX0_linkOf 0 = .ok (.aload_n 0, 1) := by decide +kernel
theorem dX0_linkOf_1 : decode cX0_linkOf 1 = .ok (.getfield 60, 3) := by decide +kernel
theorem dX0_linkOf_4 : decode cX0_linkOf 4 = .ok (.iload_n 1, 1) := by decide +kernel
theorem dX0_linkOf_5 : decode cX0_linkOf 5 = .ok (.ishr, 1) := by decide +kernel
theorem dX0_linkOf_6 : decode cX0_linkOf 6 = .ok (.iconst 1, 1) := by decide +kernel
theorem dX0_linkOf_7 : decode cX0_linkOf 7 = .ok (.iand, 1) := by decide +kernel
theorem dX0_linkOf_8 : decode cX0_linkOf 8 = .ok (.ifCond .eq 16, 3) := by decide +kernel
theorem dX0_linkOf_11 : decode cX0_linkOf 11 = .ok (.aload_n 0, 1) := by decide +kernel
theorem dX0_linkOf_12 : decode cX0_linkOf 12 = .ok (.getfield 29, 3) := by decide +kernel
theorem dX0_linkOf_15 : decode cX0_linkOf 15 = .ok (.iconst 2, 1) := by decide +kernel
theorem dX0_linkOf_16 : decode cX0_linkOf 16 = .ok (.iload_n 1, 1) := by decide +kernel
theorem dX0_linkOf_17 : decode cX0_linkOf 17 = .ok (.imul, 1) := by decide +kernel
theorem dX0_linkOf_18 : decode cX0_linkOf 18 = .ok (.iload_n 2, 1) := by decide +kernel
theorem dX0_linkOf_19 : decode cX0_linkOf 19 = .ok (.iadd, 1) := by decide +kernel
theorem dX0_linkOf_20 : decode cX0_linkOf 20 = .ok (.baload, 1) := by decide +kernel
theorem dX0_linkOf_21 : decode cX0_linkOf 21 = .ok (.goto 13, 3) := by decide +kernel
theorem dX0_linkOf_24 : decode cX0_linkOf 24 = .ok (.aload_n 0, 1) := by decide +kernel
theorem dX0_linkOf_25 : decode cX0_linkOf 25 = .ok (.getfield 13, 3) := by decide +kernel
theorem dX0_linkOf_28 : decode cX0_linkOf 28 = .ok (.iconst 2, 1) := by decide +kernel
theorem dX0_linkOf_29 : decode cX0_linkOf 29 = .ok (.iload_n 1, 1) := by decide +kernel
theorem dX0_linkOf_30 : decode cX0_linkOf 30 = .ok (.imul, 1) := by decide +kernel
theorem dX0_linkOf_31 : decode cX0_linkOf 31 = .ok (.iload_n 2, 1) := by decide +kernel
theorem dX0_linkOf_32 : decode cX0_linkOf 32 = .ok (.iadd, 1) := by decide +kernel
theorem dX0_linkOf_33 : decode cX0_linkOf 33 = .ok (.baload, 1) := by decide +kernel
theorem dX0_linkOf_34 : decode cX0_linkOf 34 = .ok (.ireturn, 1) := by decide +kernel
theorem dX0_bitsIn_0 : decode cX0_bitsIn 0 = .ok (.iconst 0, 1) := by decide +kernel
theorem dX0_bitsIn_1 : decode cX0_bitsIn 1 = .ok (.istore_n 2, 1) := by decide +kernel
theorem dX0_bitsIn_2 : decode cX0_bitsIn 2 = .ok (.iconst 0, 1) := by decide +kernel
theorem dX0_bitsIn_3 : decode cX0_bitsIn 3 = .ok (.istore_n 3, 1) := by decide +kernel
theorem dX0_bitsIn_4 : decode cX0_bitsIn 4 = .ok (.iload_n 3, 1) := by decide +kernel
theorem dX0_bitsIn_5 : decode cX0_bitsIn 5 = .ok (.bipush 12, 2) := by decide +kernel
theorem dX0_bitsIn_7 : decode cX0_bitsIn 7 = .ok (.if_icmp .ge 17, 3) := by decide +kernel
theorem dX0_bitsIn_10 : decode cX0_bitsIn 10 = .ok (.iload_n 2, 1) := by decide +kernel
theorem dX0_bitsIn_11 : decode cX0_bitsIn 11 = .ok (.iload_n 1, 1) := by decide +kernel
theorem dX0_bitsIn_12 : decode cX0_bitsIn 12 = .ok (.iload_n 3, 1) := by decide +kernel
theorem dX0_bitsIn_13 : decode cX0_bitsIn 13 = .ok (.ishr, 1) := by decide +kernel
theorem dX0_bitsIn_14 : decode cX0_bitsIn 14 = .ok (.iconst 1, 1) := by decide +kernel
theorem dX0_bitsIn_15 : decode cX0_bitsIn 15 = .ok (.iand, 1) := by decide +kernel
theorem dX0_bitsIn_16 : decode cX0_bitsIn 16 = .ok (.iadd, 1) := by decide +kernel
theorem dX0_bitsIn_17 : decode cX0_bitsIn 17 = .ok (.istore_n 2, 1) := by decide +kernel
theorem dX0_bitsIn_18 : decode cX0_bitsIn 18 = .ok (.iinc 3 1, 3) := by decide +kernel
theorem dX0_bitsIn_21 : decode cX0_bitsIn 21 = .ok (.goto (-17), 3) := by decide +kernel
theorem dX0_bitsIn_24 : decode cX0_bitsIn 24 = .ok (.iload_n 2, 1) := by decide +kernel
theorem dX0_bitsIn_25 : decode cX0_bitsIn 25 = .ok (.ireturn, 1) := by decide +kernel
theorem dX0_freePlace_0 : decode cX0_freePlace 0 = .ok (.aload_n 0, 1) := by decide +kernel
theorem dX0_freePlace_1 : decode cX0_freePlace 1 = .ok (.getfield 57, 3) := by decide +kernel
theorem dX0_freePlace_4 : decode cX0_freePlace 4 = .ok (.sipush 4095, 3) := by decide +kernel
theorem dX0_freePlace_7 : decode cX0_freePlace 7 = .ok (.if_icmp .ne 18, 3) := by decide +kernel
theorem dX0_freePlace_10 : decode cX0_freePlace 10 = .ok (.aload_n 0, 1) := by decide +kernel
theorem dX0_freePlace_11 : decode cX0_freePlace 11 = .ok (.iload_n 1, 1) := by decide +kernel
theorem dX0_freePlace_12 : decode cX0_freePlace 12 = .ok (.putfield 57, 3) := by decide +kernel
theorem dX0_freePlace_15 : decode cX0_freePlace 15 = .ok (.aload_n 0, 1) := by decide +kernel
theorem dX0_freePlace_16 : decode cX0_freePlace 16 = .ok (.dup, 1) := by decide +kernel
theorem dX0_freePlace_17 : decode cX0_freePlace 17 = .ok (.getfield 60, 3) := by decide +kernel
theorem dX0_freePlace_20 : decode cX0_freePlace 20 = .ok (.iload_n 1, 1) := by decide +kernel
theorem dX0_freePlace_21 : decode cX0_freePlace 21 = .ok (.iand, 1) := by decide +kernel
theorem dX0_freePlace_22 : decode cX0_freePlace 22 = .ok (.putfield 60, 3) := by decide +kernel
theorem dX0_freePlace_25 : decode cX0_freePlace 25 = .ok (.iconst 0, 1) := by decide +kernel
theorem dX0_freePlace_26 : decode cX0_freePlace 26 = .ok (.istore_n 2, 1) := by decide +kernel
theorem dX0_freePlace_27 : decode cX0_freePlace 27 = .ok (.iload_n 2, 1) := by decide +kernel
theorem dX0_freePlace_28 : decode cX0_freePlace 28 = .ok (.bipush 11, 2) := by decide +kernel
theorem dX0_freePlace_30 : decode cX0_freePlace 30 = .ok (.if_icmp .ge 20, 3) := by decide +kernel
theorem dX0_freePlace_33 : decode cX0_freePlace 33 = .ok (.aload_n 0, 1) := by decide +kernel
theorem dX0_freePlace_34 : decode cX0_freePlace 34 = .ok (.getfield 57, 3) := by decide +kernel
theorem dX0_freePlace_37 : decode cX0_freePlace 37 = .ok (.iload_n 2, 1) := by decide +kernel
theorem dX0_freePlace_38 : decode cX0_freePlace 38 = .ok (.ishr, 1) := by decide +kernel
theorem dX0_freePlace_39 : decode cX0_freePlace 39 = .ok (.iconst 1, 1) := by decide +kernel
theorem dX0_freePlace_40 : decode cX0_freePlace 40 = .ok (.iand, 1) := by decide +kernel
theorem dX0_freePlace_41 : decode cX0_freePlace 41 = .ok (.ifCond .eq 9, 3) := by decide +kernel
theorem dX0_freePlace_44 : decode cX0_freePlace 44 = .ok (.iinc 2 1, 3) := by decide +kernel
theorem dX0_freePlace_47 : decode cX0_freePlace 47 = .ok (.goto (-20), 3) := by decide +kernel
theorem dX0_freePlace_50 : decode cX0_freePlace 50 = .ok (.iload_n 2, 1) := by decide +kernel
theorem dX0_freePlace_51 : decode cX0_freePlace 51 = .ok (.ireturn, 1) := by decide +kernel
theorem dX0_getRoot_0 : decode cX0_getRoot 0 = .ok (.aload_n 0, 1) := by decide +kernel
theorem dX0_getRoot_1 : decode cX0_getRoot 1 = .ok (.iload_n 1, 1) := by decide +kernel
theorem dX0_getRoot_2 : decode cX0_getRoot 2 = .ok (.invokevirtual 42, 3) := by decide +kernel
theorem dX0_getRoot_5 : decode cX0_getRoot 5 = .ok (.ifCond .ne 5, 3) := by decide +kernel
theorem dX0_getRoot_8 : decode cX0_getRoot 8 = .ok (.iconst (-1), 1) := by decide +kernel
theorem dX0_getRoot_9 : decode cX0_getRoot 9 = .ok (.ireturn, 1) := by decide +kernel
theorem dX0_getRoot_10 : decode cX0_getRoot 10 = .ok (.aload_n 0, 1) := by decide +kernel
theorem dX0_getRoot_11 : decode cX0_getRoot 11 = .ok (.getfield 32, 3) := by decide +kernel
theorem dX0_getRoot_14 : decode cX0_getRoot 14 = .ok (.iload_n 1, 1) := by decide +kernel
theorem dX0_getRoot_15 : decode cX0_getRoot 15 = .ok (.aload_n 0, 1) := by decide +kernel
theorem dX0_getRoot_16 : decode cX0_getRoot 16 = .ok (.getfield 39, 3) := by decide +kernel
theorem dX0_getRoot_19 : decode cX0_getRoot 19 = .ok (.i2b, 1) := by decide +kernel
theorem dX0_getRoot_20 : decode cX0_getRoot 20 = .ok (.bastore, 1) := by decide +kernel
theorem dX0_getRoot_21 : decode cX0_getRoot 21 = .ok (.aload_n 0, 1) := by decide +kernel
theorem dX0_getRoot_22 : decode cX0_getRoot 22 = .ok (.getfield 39, 3) := by decide +kernel
theorem dX0_getRoot_25 : decode cX0_getRoot 25 = .ok (.ifCond .ge 7, 3) := by decide +kernel
theorem dX0_getRoot_28 : decode cX0_getRoot 28 = .ok (.iconst 0, 1) := by decide +kernel
theorem dX0_getRoot_29 : decode cX0_getRoot 29 = .ok (.goto 4, 3) := by decide +kernel
theorem dX0_getRoot_32 : decode cX0_getRoot 32 = .ok (.iconst 1, 1) := by decide +kernel
theorem dX0_getRoot_33 : decode cX0_getRoot 33 = .ok (.ireturn, 1) := by decide +kernel
theorem dX0_setRoot_0 : decode cX0_setRoot 0 = .ok (.aload_n 0, 1) := by decide +kernel
theorem dX0_setRoot_1 : decode cX0_setRoot 1 = .ok (.iload_n 1, 1) := by decide +kernel
theorem dX0_setRoot_2 : decode cX0_setRoot 2 = .ok (.invokevirtual 42, 3) := by decide +kernel
theorem dX0_setRoot_5 : decode cX0_setRoot 5 = .ok (.ifCond .ne 5, 3) := by decide +kernel
theorem dX0_setRoot_8 : decode cX0_setRoot 8 = .ok (.iconst (-1), 1) := by decide +kernel
theorem dX0_setRoot_9 : decode cX0_setRoot 9 = .ok (.ireturn, 1) := by decide +kernel
theorem dX0_setRoot_10 : decode cX0_setRoot 10 = .ok (.aload_n 0, 1) := by decide +kernel
theorem dX0_setRoot_11 : decode cX0_setRoot 11 = .ok (.aload_n 0, 1) := by decide +kernel
theorem dX0_setRoot_12 : decode cX0_setRoot 12 = .ok (.getfield 32, 3) := by decide +kernel
theorem dX0_setRoot_15 : decode cX0_setRoot 15 = .ok (.iload_n 1, 1) := by decide +kernel
theorem dX0_setRoot_16 : decode cX0_setRoot 16 = .ok (.baload, 1) := by decide +kernel
theorem dX0_setRoot_17 : decode cX0_setRoot 17 = .ok (.putfield 39, 3) := by decide +kernel
theorem dX0_setRoot_20 : decode cX0_setRoot 20 = .ok (.aload_n 0, 1) := by decide +kernel
theorem dX0_setRoot_21 : decode cX0_setRoot 21 = .ok (.getfield 39, 3) := by decide +kernel
theorem dX0_setRoot_24 : decode cX0_setRoot 24 = .ok (.ifCond .ge 7, 3) := by decide +kernel
theorem dX0_setRoot_27 : decode cX0_setRoot 27 = .ok (.iconst 0, 1) := by decide +kernel
theorem dX0_setRoot_28 : decode cX0_setRoot 28 = .ok (.goto 4, 3) := by decide +kernel
theorem dX0_setRoot_31 : decode cX0_setRoot 31 = .ok (.iconst 1, 1) := by decide +kernel
theorem dX0_setRoot_32 : decode cX0_setRoot 32 = .ok (.ireturn, 1) := by decide +kernel
theorem dX0_follow_0 : decode cX0_follow 0 = .ok (.aload_n 0, 1) := by decide +kernel
theorem dX0_follow_1 : decode cX0_follow 1 = .ok (.iload_n 1, 1) := by decide +kernel
theorem dX0_follow_2 : decode cX0_follow 2 = .ok (.invokevirtual 42, 3) := by decide +kernel
theorem dX0_follow_5 : decode cX0_follow 5 = .ok (.ifCond .eq 20, 3) := by decide +kernel
theorem dX0_follow_8 : decode cX0_follow 8 = .ok (.aload_n 0, 1) := by decide +kernel
theorem dX0_follow_9 : decode cX0_follow 9 = .ok (.iload_n 2, 1) := by decide +kernel
theorem dX0_follow_10 : decode cX0_follow 10 = .ok (.invokevirtual 42, 3) := by decide +kernel
theorem dX0_follow_13 : decode cX0_follow 13 = .ok (.ifCond .eq 12, 3) := by decide +kernel
theorem dX0_follow_16 : decode cX0_follow 16 = .ok (.iload_n 3, 1) := by decide +kernel
theorem dX0_follow_17 : decode cX0_follow 17 = .ok (.ifCond .lt 8, 3) := by decide +kernel
theorem dX0_follow_20 : decode cX0_follow 20 = .ok (.iload_n 3, 1) := by decide +kernel
theorem dX0_follow_21 : decode cX0_follow 21 = .ok (.iconst 1, 1) := by decide +kernel
theorem dX0_follow_22 : decode cX0_follow 22 = .ok (.if_icmp .le 5, 3) := by decide +kernel
theorem dX0_follow_25 : decode cX0_follow 25 = .ok (.iconst (-1), 1) := by decide +kernel
theorem dX0_follow_26 : decode cX0_follow 26 = .ok (.ireturn, 1) := by decide +kernel
theorem dX0_follow_27 : decode cX0_follow 27 = .ok (.aload_n 0, 1) := by decide +kernel
theorem dX0_follow_28 : decode cX0_follow 28 = .ok (.getfield 32, 3) := by decide +kernel
theorem dX0_follow_31 : decode cX0_follow 31 = .ok (.iload_n 2, 1) := by decide +kernel
theorem dX0_follow_32 : decode cX0_follow 32 = .ok (.baload, 1) := by decide +kernel
theorem dX0_follow_33 : decode cX0_follow 33 = .ok (.ifCond .ge 6, 3) := by decide +kernel
theorem dX0_follow_36 : decode cX0_follow 36 = .ok (.bipush (-3), 2) := by decide +kernel
theorem dX0_follow_38 : decode cX0_follow 38 = .ok (.ireturn, 1) := by decide +kernel
theorem dX0_follow_39 : decode cX0_follow 39 = .ok (.aload_n 0, 1) := by decide +kernel
theorem dX0_follow_40 : decode cX0_follow 40 = .ok (.getfield 32, 3) := by decide +kernel
theorem dX0_follow_43 : decode cX0_follow 43 = .ok (.iload_n 2, 1) := by decide +kernel
theorem dX0_follow_44 : decode cX0_follow 44 = .ok (.baload, 1) := by decide +kernel
theorem dX0_follow_45 : decode cX0_follow 45 = .ok (.istore 4, 2) := by decide +kernel
theorem dX0_follow_47 : decode cX0_follow 47 = .ok (.aload_n 0, 1) := by decide +kernel
theorem dX0_follow_48 : decode cX0_follow 48 = .ok (.iload 4, 2) := by decide +kernel
theorem dX0_follow_50 : decode cX0_follow 50 = .ok (.invokevirtual 63, 3) := by decide +kernel
theorem dX0_follow_53 : decode cX0_follow 53 = .ok (.aload_n 0, 1) := by decide +kernel
theorem dX0_follow_54 : decode cX0_follow 54 = .ok (.getfield 32, 3) := by decide +kernel
theorem dX0_follow_57 : decode cX0_follow 57 = .ok (.iload_n 1, 1) := by decide +kernel
theorem dX0_follow_58 : decode cX0_follow 58 = .ok (.aload_n 0, 1) := by decide +kernel
theorem dX0_follow_59 : decode cX0_follow 59 = .ok (.getfield 29, 3) := by decide +kernel
theorem dX0_follow_62 : decode cX0_follow 62 = .ok (.iconst 2, 1) := by decide +kernel
theorem dX0_follow_63 : decode cX0_follow 63 = .ok (.iload 4, 2) := by decide +kernel
theorem dX0_follow_65 : decode cX0_follow 65 = .ok (.imul, 1) := by decide +kernel
theorem dX0_follow_66 : decode cX0_follow 66 = .ok (.iload_n 3, 1) := by decide +kernel
theorem dX0_follow_67 : decode cX0_follow 67 = .ok (.iadd, 1) := by decide +kernel
theorem dX0_follow_68 : decode cX0_follow 68 = .ok (.baload, 1) := by decide +kernel
theorem dX0_follow_69 : decode cX0_follow 69 = .ok (.bastore, 1) := by decide +kernel
theorem dX0_follow_70 : decode cX0_follow 70 = .ok (.aload_n 0, 1) := by decide +kernel
theorem dX0_follow_71 : decode cX0_follow 71 = .ok (.getfield 32, 3) := by decide +kernel
theorem dX0_follow_74 : decode cX0_follow 74 = .ok (.iload_n 1, 1) := by decide +kernel
theorem dX0_follow_75 : decode cX0_follow 75 = .ok (.baload, 1) := by decide +kernel
theorem dX0_follow_76 : decode cX0_follow 76 = .ok (.ifCond .ge 7, 3) := by decide +kernel
theorem dX0_follow_79 : decode cX0_follow 79 = .ok (.iconst 0, 1) := by decide +kernel
theorem dX0_follow_80 : decode cX0_follow 80 = .ok (.goto 4, 3) := by decide +kernel
theorem dX0_follow_83 : decode cX0_follow 83 = .ok (.iconst 1, 1) := by decide +kernel
theorem dX0_follow_84 : decode cX0_follow 84 = .ok (.ireturn, 1) := by decide +kernel
theorem dX0_bringIn_0 : decode cX0_bringIn 0 = .ok (.aload_n 0, 1) := by decide +kernel
theorem dX0_bringIn_1 : decode cX0_bringIn 1 = .ok (.getfield 60, 3) := by decide +kernel
theorem dX0_bringIn_4 : decode cX0_bringIn 4 = .ok (.iload_n 1, 1) := by decide +kernel
theorem dX0_bringIn_5 : decode cX0_bringIn 5 = .ok (.ishr, 1) := by decide +kernel
theorem dX0_bringIn_6 : decode cX0_bringIn 6 = .ok (.iconst 1, 1) := by decide +kernel
theorem dX0_bringIn_7 : decode cX0_bringIn 7 = .ok (.iand, 1) := by decide +kernel
theorem dX0_bringIn_8 : decode cX0_bringIn 8 = .ok (.ifCond .eq 4, 3) := by decide +kernel
theorem dX0_bringIn_11 : decode cX0_bringIn 11 = .ok (.return_, 1) := by decide +kernel
theorem dX0_bringIn_12 : decode cX0_bringIn 12 = .ok (.aload_n 0, 1) := by decide +kernel
theorem dX0_bringIn_13 : decode cX0_bringIn 13 = .ok (.dup, 1) := by decide +kernel
theorem dX0_bringIn_14 : decode cX0_bringIn 14 = .ok (.getfield 60, 3) := by decide +kernel
theorem dX0_bringIn_17 : decode cX0_bringIn 17 = .ok (.iconst 1, 1) := by decide +kernel
theorem dX0_bringIn_18 : decode cX0_bringIn 18 = .ok (.iload_n 1, 1) := by decide +kernel
theorem dX0_bringIn_19 : decode cX0_bringIn 19 = .ok (.ishl, 1) := by decide +kernel
theorem dX0_bringIn_20 : decode cX0_bringIn 20 = .ok (.ior, 1) := by decide +kernel
theorem dX0_bringIn_21 : decode cX0_bringIn 21 = .ok (.putfield 60, 3) := by decide +kernel
theorem dX0_bringIn_24 : decode cX0_bringIn 24 = .ok (.aload_n 0, 1) := by decide +kernel
theorem dX0_bringIn_25 : decode cX0_bringIn 25 = .ok (.getfield 26, 3) := by decide +kernel
theorem dX0_bringIn_28 : decode cX0_bringIn 28 = .ok (.iload_n 1, 1) := by decide +kernel
theorem dX0_bringIn_29 : decode cX0_bringIn 29 = .ok (.aload_n 0, 1) := by decide +kernel
theorem dX0_bringIn_30 : decode cX0_bringIn 30 = .ok (.getfield 7, 3) := by decide +kernel
theorem dX0_bringIn_33 : decode cX0_bringIn 33 = .ok (.iload_n 1, 1) := by decide +kernel
theorem dX0_bringIn_34 : decode cX0_bringIn 34 = .ok (.iaload, 1) := by decide +kernel
theorem dX0_bringIn_35 : decode cX0_bringIn 35 = .ok (.iastore, 1) := by decide +kernel
theorem dX0_bringIn_36 : decode cX0_bringIn 36 = .ok (.aload_n 0, 1) := by decide +kernel
theorem dX0_bringIn_37 : decode cX0_bringIn 37 = .ok (.getfield 29, 3) := by decide +kernel
theorem dX0_bringIn_40 : decode cX0_bringIn 40 = .ok (.iconst 2, 1) := by decide +kernel
theorem dX0_bringIn_41 : decode cX0_bringIn 41 = .ok (.iload_n 1, 1) := by decide +kernel
theorem dX0_bringIn_42 : decode cX0_bringIn 42 = .ok (.imul, 1) := by decide +kernel
theorem dX0_bringIn_43 : decode cX0_bringIn 43 = .ok (.aload_n 0, 1) := by decide +kernel
theorem dX0_bringIn_44 : decode cX0_bringIn 44 = .ok (.getfield 13, 3) := by decide +kernel
theorem dX0_bringIn_47 : decode cX0_bringIn 47 = .ok (.iconst 2, 1) := by decide +kernel
theorem dX0_bringIn_48 : decode cX0_bringIn 48 = .ok (.iload_n 1, 1) := by decide +kernel
theorem dX0_bringIn_49 : decode cX0_bringIn 49 = .ok (.imul, 1) := by decide +kernel
theorem dX0_bringIn_50 : decode cX0_bringIn 50 = .ok (.baload, 1) := by decide +kernel
theorem dX0_bringIn_51 : decode cX0_bringIn 51 = .ok (.bastore, 1) := by decide +kernel
theorem dX0_bringIn_52 : decode cX0_bringIn 52 = .ok (.aload_n 0, 1) := by decide +kernel
theorem dX0_bringIn_53 : decode cX0_bringIn 53 = .ok (.getfield 29, 3) := by decide +kernel
theorem dX0_bringIn_56 : decode cX0_bringIn 56 = .ok (.iconst 2, 1) := by decide +kernel
theorem dX0_bringIn_57 : decode cX0_bringIn 57 = .ok (.iload_n 1, 1) := by decide +kernel
theorem dX0_bringIn_58 : decode cX0_bringIn 58 = .ok (.imul, 1) := by decide +kernel
theorem dX0_bringIn_59 : decode cX0_bringIn 59 = .ok (.iconst 1, 1) := by decide +kernel
theorem dX0_bringIn_60 : decode cX0_bringIn 60 = .ok (.iadd, 1) := by decide +kernel
theorem dX0_bringIn_61 : decode cX0_bringIn 61 = .ok (.aload_n 0, 1) := by decide +kernel
theorem dX0_bringIn_62 : decode cX0_bringIn 62 = .ok (.getfield 13, 3) := by decide +kernel
theorem dX0_bringIn_65 : decode cX0_bringIn 65 = .ok (.iconst 2, 1) := by decide +kernel
theorem dX0_bringIn_66 : decode cX0_bringIn 66 = .ok (.iload_n 1, 1) := by decide +kernel
theorem dX0_bringIn_67 : decode cX0_bringIn 67 = .ok (.imul, 1) := by decide +kernel
theorem dX0_bringIn_68 : decode cX0_bringIn 68 = .ok (.iconst 1, 1) := by decide +kernel
theorem dX0_bringIn_69 : decode cX0_bringIn 69 = .ok (.iadd, 1) := by decide +kernel
theorem dX0_bringIn_70 : decode cX0_bringIn 70 = .ok (.baload, 1) := by decide +kernel
theorem dX0_bringIn_71 : decode cX0_bringIn 71 = .ok (.bastore, 1) := by decide +kernel
theorem dX0_bringIn_72 : decode cX0_bringIn 72 = .ok (.return_, 1) := by decide +kernel
theorem dX0_link_0 : decode cX0_link 0 = .ok (.aload_n 0, 1) := by decide +kernel
theorem dX0_link_1 : decode cX0_link 1 = .ok (.iload_n 1, 1) := by decide +kernel
theorem dX0_link_2 : decode cX0_link 2 = .ok (.invokevirtual 42, 3) := by decide +kernel
theorem dX0_link_5 : decode cX0_link 5 = .ok (.ifCond .eq 20, 3) := by decide +kernel
theorem dX0_link_8 : decode cX0_link 8 = .ok (.aload_n 0, 1) := by decide +kernel
theorem dX0_link_9 : decode cX0_link 9 = .ok (.iload_n 3, 1) := by decide +kernel
theorem dX0_link_10 : decode cX0_link 10 = .ok (.invokevirtual 42, 3) := by decide +kernel
theorem dX0_link_13 : decode cX0_link 13 = .ok (.ifCond .eq 12, 3) := by decide +kernel
theorem dX0_link_16 : decode cX0_link 16 = .ok (.iload_n 2, 1) := by decide +kernel
theorem dX0_link_17 : decode cX0_link 17 = .ok (.ifCond .lt 8, 3) := by decide +kernel
theorem dX0_link_20 : decode cX0_link 20 = .ok (.iload_n 2, 1) := by decide +kernel
theorem dX0_link_21 : decode cX0_link 21 = .ok (.iconst 1, 1) := by decide +kernel
theorem dX0_link_22 : decode cX0_link 22 = .ok (.if_icmp .le 5, 3) := by decide +kernel
theorem dX0_link_25 : decode cX0_link 25 = .ok (.iconst (-1), 1) := by decide +kernel
theorem dX0_link_26 : decode cX0_link 26 = .ok (.ireturn, 1) := by decide +kernel
theorem dX0_link_27 : decode cX0_link 27 = .ok (.aload_n 0, 1) := by decide +kernel
theorem dX0_link_28 : decode cX0_link 28 = .ok (.getfield 32, 3) := by decide +kernel
theorem dX0_link_31 : decode cX0_link 31 = .ok (.iload_n 1, 1) := by decide +kernel
theorem dX0_link_32 : decode cX0_link 32 = .ok (.baload, 1) := by decide +kernel
theorem dX0_link_33 : decode cX0_link 33 = .ok (.ifCond .ge 6, 3) := by decide +kernel
theorem dX0_link_36 : decode cX0_link 36 = .ok (.bipush (-3), 2) := by decide +kernel
theorem dX0_link_38 : decode cX0_link 38 = .ok (.ireturn, 1) := by decide +kernel
theorem dX0_link_39 : decode cX0_link 39 = .ok (.aload_n 0, 1) := by decide +kernel
theorem dX0_link_40 : decode cX0_link 40 = .ok (.getfield 32, 3) := by decide +kernel
theorem dX0_link_43 : decode cX0_link 43 = .ok (.iload_n 1, 1) := by decide +kernel
theorem dX0_link_44 : decode cX0_link 44 = .ok (.baload, 1) := by decide +kernel
theorem dX0_link_45 : decode cX0_link 45 = .ok (.istore 4, 2) := by decide +kernel
theorem dX0_link_47 : decode cX0_link 47 = .ok (.aload_n 0, 1) := by decide +kernel
theorem dX0_link_48 : decode cX0_link 48 = .ok (.iload 4, 2) := by decide +kernel
theorem dX0_link_50 : decode cX0_link 50 = .ok (.invokevirtual 63, 3) := by decide +kernel
theorem dX0_link_53 : decode cX0_link 53 = .ok (.aload_n 0, 1) := by decide +kernel
theorem dX0_link_54 : decode cX0_link 54 = .ok (.getfield 29, 3) := by decide +kernel
theorem dX0_link_57 : decode cX0_link 57 = .ok (.iconst 2, 1) := by decide +kernel
theorem dX0_link_58 : decode cX0_link 58 = .ok (.iload 4, 2) := by decide +kernel
theorem dX0_link_60 : decode cX0_link 60 = .ok (.imul, 1) := by decide +kernel
theorem dX0_link_61 : decode cX0_link 61 = .ok (.iload_n 2, 1) := by decide +kernel
theorem dX0_link_62 : decode cX0_link 62 = .ok (.iadd, 1) := by decide +kernel
theorem dX0_link_63 : decode cX0_link 63 = .ok (.aload_n 0, 1) := by decide +kernel
theorem dX0_link_64 : decode cX0_link 64 = .ok (.getfield 32, 3) := by decide +kernel
theorem dX0_link_67 : decode cX0_link 67 = .ok (.iload_n 3, 1) := by decide +kernel
theorem dX0_link_68 : decode cX0_link 68 = .ok (.baload, 1) := by decide +kernel
theorem dX0_link_69 : decode cX0_link 69 = .ok (.bastore, 1) := by decide +kernel
theorem dX0_link_70 : decode cX0_link 70 = .ok (.aload_n 0, 1) := by decide +kernel
theorem dX0_link_71 : decode cX0_link 71 = .ok (.getfield 32, 3) := by decide +kernel
theorem dX0_link_74 : decode cX0_link 74 = .ok (.iload_n 3, 1) := by decide +kernel
theorem dX0_link_75 : decode cX0_link 75 = .ok (.baload, 1) := by decide +kernel
theorem dX0_link_76 : decode cX0_link 76 = .ok (.ifCond .ge 7, 3) := by decide +kernel
theorem dX0_link_79 : decode cX0_link 79 = .ok (.iconst 0, 1) := by decide +kernel
theorem dX0_link_80 : decode cX0_link 80 = .ok (.goto 4, 3) := by decide +kernel
theorem dX0_link_83 : decode cX0_link 83 = .ok (.iconst 1, 1) := by decide +kernel
theorem dX0_link_84 : decode cX0_link 84 = .ok (.ireturn, 1) := by decide +kernel
theorem dX0_drop_0 : decode cX0_drop 0 = .ok (.aload_n 0, 1) := by decide +kernel
theorem dX0_drop_1 : decode cX0_drop 1 = .ok (.iload_n 1, 1) := by decide +kernel
theorem dX0_drop_2 : decode cX0_drop 2 = .ok (.invokevirtual 42, 3) := by decide +kernel
theorem dX0_drop_5 : decode cX0_drop 5 = .ok (.ifCond .ne 5, 3) := by decide +kernel
theorem dX0_drop_8 : decode cX0_drop 8 = .ok (.iconst (-1), 1) := by decide +kernel
theorem dX0_drop_9 : decode cX0_drop 9 = .ok (.ireturn, 1) := by decide +kernel
theorem dX0_drop_10 : decode cX0_drop 10 = .ok (.aload_n 0, 1) := by decide +kernel
theorem dX0_drop_11 : decode cX0_drop 11 = .ok (.getfield 32, 3) := by decide +kernel
end
section
set_option maxRecDepth 100000
theorem dX0_drop_14 : decode cX0_drop 14 = .ok (.iload_n 1, 1) := by decide +kernel
theorem dX0_drop_15 : decode cX0_drop 15 = .ok (.baload, 1) := by decide +kernel
theorem dX0_drop_16 : decode cX0_drop 16 = .ok (.istore_n 2, 1) := by decide +kernel
theorem dX0_drop_17 : decode cX0_drop 17 = .ok (.aload_n 0, 1) := by decide +kernel
theorem dX0_drop_18 : decode cX0_drop 18 = .ok (.getfield 32, 3) := by decide +kernel
theorem dX0_drop_21 : decode cX0_drop 21 = .ok (.iload_n 1, 1) := by decide +kernel
theorem dX0_drop_22 : decode cX0_drop 22 = .ok (.iconst (-1), 1) := by decide +kernel
theorem dX0_drop_23 : decode cX0_drop 23 = .ok (.bastore, 1) := by decide +kernel
theorem dX0_drop_24 : decode cX0_drop 24 = .ok (.iload_n 2, 1) := by decide +kernel
theorem dX0_drop_25 : decode cX0_drop 25 = .ok (.ifCond .ge 7, 3) := by decide +kernel
theorem dX0_drop_28 : decode cX0_drop 28 = .ok (.iconst 0, 1) := by decide +kernel
theorem dX0_drop_29 : decode cX0_drop 29 = .ok (.goto 4, 3) := by decide +kernel
theorem dX0_drop_32 : decode cX0_drop 32 = .ok (.iconst 1, 1) := by decide +kernel
theorem dX0_drop_33 : decode cX0_drop 33 = .ok (.ireturn, 1) := by decide +kernel
theorem dX0_value_0 : decode cX0_value 0 = .ok (.aload_n 0, 1) := by decide +kernel
theorem dX0_value_1 : decode cX0_value 1 = .ok (.iload_n 1, 1) := by decide +kernel
theorem dX0_value_2 : decode cX0_value 2 = .ok (.invokevirtual 42, 3) := by decide +kernel
theorem dX0_value_5 : decode cX0_value 5 = .ok (.ifCond .eq 12, 3) := by decide +kernel
theorem dX0_value_8 : decode cX0_value 8 = .ok (.aload_n 0, 1) := by decide +kernel
theorem dX0_value_9 : decode cX0_value 9 = .ok (.getfield 32, 3) := by decide +kernel
theorem dX0_value_12 : decode cX0_value 12 = .ok (.iload_n 1, 1) := by decide +kernel
theorem dX0_value_13 : decode cX0_value 13 = .ok (.baload, 1) := by decide +kernel
theorem dX0_value_14 : decode cX0_value 14 = .ok (.ifCond .ge 5, 3) := by decide +kernel
theorem dX0_value_17 : decode cX0_value 17 = .ok (.iconst 0, 1) := by decide +kernel
theorem dX0_value_18 : decode cX0_value 18 = .ok (.ireturn, 1) := by decide +kernel
theorem dX0_value_19 : decode cX0_value 19 = .ok (.aload_n 0, 1) := by decide +kernel
theorem dX0_value_20 : decode cX0_value 20 = .ok (.getfield 32, 3) := by decide +kernel
theorem dX0_value_23 : decode cX0_value 23 = .ok (.iload_n 1, 1) := by decide +kernel
theorem dX0_value_24 : decode cX0_value 24 = .ok (.baload, 1) := by decide +kernel
theorem dX0_value_25 : decode cX0_value 25 = .ok (.istore_n 2, 1) := by decide +kernel
theorem dX0_value_26 : decode cX0_value 26 = .ok (.aload_n 0, 1) := by decide +kernel
theorem dX0_value_27 : decode cX0_value 27 = .ok (.iload_n 2, 1) := by decide +kernel
theorem dX0_value_28 : decode cX0_value 28 = .ok (.invokevirtual 63, 3) := by decide +kernel
theorem dX0_value_31 : decode cX0_value 31 = .ok (.aload_n 0, 1) := by decide +kernel
theorem dX0_value_32 : decode cX0_value 32 = .ok (.getfield 26, 3) := by decide +kernel
theorem dX0_value_35 : decode cX0_value 35 = .ok (.iload_n 2, 1) := by decide +kernel
theorem dX0_value_36 : decode cX0_value 36 = .ok (.iaload, 1) := by decide +kernel
theorem dX0_value_37 : decode cX0_value 37 = .ok (.ireturn, 1) := by decide +kernel
theorem dX0_setValue_0 : decode cX0_setValue 0 = .ok (.aload_n 0, 1) := by decide +kernel
theorem dX0_setValue_1 : decode cX0_setValue 1 = .ok (.iload_n 1, 1) := by decide +kernel
theorem dX0_setValue_2 : decode cX0_setValue 2 = .ok (.invokevirtual 42, 3) := by decide +kernel
theorem dX0_setValue_5 : decode cX0_setValue 5 = .ok (.ifCond .ne 5, 3) := by decide +kernel
theorem dX0_setValue_8 : decode cX0_setValue 8 = .ok (.iconst (-1), 1) := by decide +kernel
theorem dX0_setValue_9 : decode cX0_setValue 9 = .ok (.ireturn, 1) := by decide +kernel
theorem dX0_setValue_10 : decode cX0_setValue 10 = .ok (.aload_n 0, 1) := by decide +kernel
theorem dX0_setValue_11 : decode cX0_setValue 11 = .ok (.getfield 32, 3) := by decide +kernel
theorem dX0_setValue_14 : decode cX0_setValue 14 = .ok (.iload_n 1, 1) := by decide +kernel
theorem dX0_setValue_15 : decode cX0_setValue 15 = .ok (.baload, 1) := by decide +kernel
theorem dX0_setValue_16 : decode cX0_setValue 16 = .ok (.ifCond .ge 6, 3) := by decide +kernel
theorem dX0_setValue_19 : decode cX0_setValue 19 = .ok (.bipush (-3), 2) := by decide +kernel
theorem dX0_setValue_21 : decode cX0_setValue 21 = .ok (.ireturn, 1) := by decide +kernel
theorem dX0_setValue_22 : decode cX0_setValue 22 = .ok (.aload_n 0, 1) := by decide +kernel
theorem dX0_setValue_23 : decode cX0_setValue 23 = .ok (.getfield 32, 3) := by decide +kernel
theorem dX0_setValue_26 : decode cX0_setValue 26 = .ok (.iload_n 1, 1) := by decide +kernel
theorem dX0_setValue_27 : decode cX0_setValue 27 = .ok (.baload, 1) := by decide +kernel
theorem dX0_setValue_28 : decode cX0_setValue 28 = .ok (.istore_n 3, 1) := by decide +kernel
theorem dX0_setValue_29 : decode cX0_setValue 29 = .ok (.aload_n 0, 1) := by decide +kernel
theorem dX0_setValue_30 : decode cX0_setValue 30 = .ok (.iload_n 3, 1) := by decide +kernel
theorem dX0_setValue_31 : decode cX0_setValue 31 = .ok (.invokevirtual 63, 3) := by decide +kernel
theorem dX0_setValue_34 : decode cX0_setValue 34 = .ok (.aload_n 0, 1) := by decide +kernel
theorem dX0_setValue_35 : decode cX0_setValue 35 = .ok (.getfield 26, 3) := by decide +kernel
theorem dX0_setValue_38 : decode cX0_setValue 38 = .ok (.iload_n 3, 1) := by decide +kernel
theorem dX0_setValue_39 : decode cX0_setValue 39 = .ok (.iload_n 2, 1) := by decide +kernel
theorem dX0_setValue_40 : decode cX0_setValue 40 = .ok (.iastore, 1) := by decide +kernel
theorem dX0_setValue_41 : decode cX0_setValue 41 = .ok (.iconst 1, 1) := by decide +kernel
theorem dX0_setValue_42 : decode cX0_setValue 42 = .ok (.ireturn, 1) := by decide +kernel
theorem dX0_same_0 : decode cX0_same 0 = .ok (.aload_n 0, 1) := by decide +kernel
theorem dX0_same_1 : decode cX0_same 1 = .ok (.iload_n 1, 1) := by decide +kernel
theorem dX0_same_2 : decode cX0_same 2 = .ok (.invokevirtual 42, 3) := by decide +kernel
theorem dX0_same_5 : decode cX0_same 5 = .ok (.ifCond .eq 39, 3) := by decide +kernel
theorem dX0_same_8 : decode cX0_same 8 = .ok (.aload_n 0, 1) := by decide +kernel
theorem dX0_same_9 : decode cX0_same 9 = .ok (.iload_n 2, 1) := by decide +kernel
theorem dX0_same_10 : decode cX0_same 10 = .ok (.invokevirtual 42, 3) := by decide +kernel
theorem dX0_same_13 : decode cX0_same 13 = .ok (.ifCond .eq 31, 3) := by decide +kernel
theorem dX0_same_16 : decode cX0_same 16 = .ok (.aload_n 0, 1) := by decide +kernel
theorem dX0_same_17 : decode cX0_same 17 = .ok (.getfield 32, 3) := by decide +kernel
theorem dX0_same_20 : decode cX0_same 20 = .ok (.iload_n 1, 1) := by decide +kernel
theorem dX0_same_21 : decode cX0_same 21 = .ok (.baload, 1) := by decide +kernel
theorem dX0_same_22 : decode cX0_same 22 = .ok (.ifCond .lt 22, 3) := by decide +kernel
theorem dX0_same_25 : decode cX0_same 25 = .ok (.aload_n 0, 1) := by decide +kernel
theorem dX0_same_26 : decode cX0_same 26 = .ok (.getfield 32, 3) := by decide +kernel
theorem dX0_same_29 : decode cX0_same 29 = .ok (.iload_n 1, 1) := by decide +kernel
theorem dX0_same_30 : decode cX0_same 30 = .ok (.baload, 1) := by decide +kernel
theorem dX0_same_31 : decode cX0_same 31 = .ok (.aload_n 0, 1) := by decide +kernel
theorem dX0_same_32 : decode cX0_same 32 = .ok (.getfield 32, 3) := by decide +kernel
theorem dX0_same_35 : decode cX0_same 35 = .ok (.iload_n 2, 1) := by decide +kernel
theorem dX0_same_36 : decode cX0_same 36 = .ok (.baload, 1) := by decide +kernel
theorem dX0_same_37 : decode cX0_same 37 = .ok (.if_icmp .ne 7, 3) := by decide +kernel
theorem dX0_same_40 : decode cX0_same 40 = .ok (.iconst 1, 1) := by decide +kernel
theorem dX0_same_41 : decode cX0_same 41 = .ok (.goto 4, 3) := by decide +kernel
theorem dX0_same_44 : decode cX0_same 44 = .ok (.iconst 0, 1) := by decide +kernel
theorem dX0_same_45 : decode cX0_same 45 = .ok (.ireturn, 1) := by decide +kernel
theorem dX0_commit_0 : decode cX0_commit 0 = .ok (.aload_n 0, 1) := by decide +kernel
theorem dX0_commit_1 : decode cX0_commit 1 = .ok (.invokevirtual 67, 3) := by decide +kernel
theorem dX0_commit_4 : decode cX0_commit 4 = .ok (.istore_n 1, 1) := by decide +kernel
theorem dX0_commit_5 : decode cX0_commit 5 = .ok (.aload_n 0, 1) := by decide +kernel
theorem dX0_commit_6 : decode cX0_commit 6 = .ok (.iload_n 1, 1) := by decide +kernel
theorem dX0_commit_7 : decode cX0_commit 7 = .ok (.bipush 12, 2) := by decide +kernel
theorem dX0_commit_9 : decode cX0_commit 9 = .ok (.invokevirtual 70, 3) := by decide +kernel
theorem dX0_commit_12 : decode cX0_commit 12 = .ok (.aload_n 0, 1) := by decide +kernel
theorem dX0_commit_13 : decode cX0_commit 13 = .ok (.invokevirtual 74, 3) := by decide +kernel
theorem dX0_commit_16 : decode cX0_commit 16 = .ok (.aload_n 0, 1) := by decide +kernel
theorem dX0_commit_17 : decode cX0_commit 17 = .ok (.bipush 12, 2) := by decide +kernel
theorem dX0_commit_19 : decode cX0_commit 19 = .ok (.invokevirtual 77, 3) := by decide +kernel
theorem dX0_commit_22 : decode cX0_commit 22 = .ok (.aload_n 0, 1) := by decide +kernel
theorem dX0_commit_23 : decode cX0_commit 23 = .ok (.iconst 0, 1) := by decide +kernel
theorem dX0_commit_24 : decode cX0_commit 24 = .ok (.putfield 80, 3) := by decide +kernel
theorem dX0_commit_27 : decode cX0_commit 27 = .ok (.aload_n 0, 1) := by decide +kernel
theorem dX0_commit_28 : decode cX0_commit 28 = .ok (.iconst 0, 1) := by decide +kernel
theorem dX0_commit_29 : decode cX0_commit 29 = .ok (.putfield 83, 3) := by decide +kernel
theorem dX0_commit_32 : decode cX0_commit 32 = .ok (.aload_n 0, 1) := by decide +kernel
theorem dX0_commit_33 : decode cX0_commit 33 = .ok (.iload_n 1, 1) := by decide +kernel
theorem dX0_commit_34 : decode cX0_commit 34 = .ok (.invokevirtual 50, 3) := by decide +kernel
theorem dX0_commit_37 : decode cX0_commit 37 = .ok (.ireturn, 1) := by decide +kernel
theorem dX0_changedPlaces_0 : decode cX0_changedPlaces 0 = .ok (.aload_n 0, 1) := by decide +kernel
theorem dX0_changedPlaces_1 : decode cX0_changedPlaces 1 = .ok (.aload_n 0, 1) := by decide +kernel
theorem dX0_changedPlaces_2 : decode cX0_changedPlaces 2 = .ok (.getfield 39, 3) := by decide +kernel
theorem dX0_changedPlaces_5 : decode cX0_changedPlaces 5 = .ok (.ifCond .ge 7, 3) := by decide +kernel
theorem dX0_changedPlaces_8 : decode cX0_changedPlaces 8 = .ok (.iconst 0, 1) := by decide +kernel
theorem dX0_changedPlaces_9 : decode cX0_changedPlaces 9 = .ok (.goto 9, 3) := by decide +kernel
theorem dX0_changedPlaces_12 : decode cX0_changedPlaces 12 = .ok (.iconst 1, 1) := by decide +kernel
theorem dX0_changedPlaces_13 : decode cX0_changedPlaces 13 = .ok (.aload_n 0, 1) := by decide +kernel
theorem dX0_changedPlaces_14 : decode cX0_changedPlaces 14 = .ok (.getfield 39, 3) := by decide +kernel
theorem dX0_changedPlaces_17 : decode cX0_changedPlaces 17 = .ok (.ishl, 1) := by decide +kernel
theorem dX0_changedPlaces_18 : decode cX0_changedPlaces 18 = .ok (.invokevirtual 96, 3) := by decide +kernel
theorem dX0_changedPlaces_21 : decode cX0_changedPlaces 21 = .ok (.istore_n 1, 1) := by decide +kernel
theorem dX0_changedPlaces_22 : decode cX0_changedPlaces 22 = .ok (.iconst 0, 1) := by decide +kernel
theorem dX0_changedPlaces_23 : decode cX0_changedPlaces 23 = .ok (.istore_n 2, 1) := by decide +kernel
theorem dX0_changedPlaces_24 : decode cX0_changedPlaces 24 = .ok (.iconst 0, 1) := by decide +kernel
theorem dX0_changedPlaces_25 : decode cX0_changedPlaces 25 = .ok (.istore_n 3, 1) := by decide +kernel
theorem dX0_changedPlaces_26 : decode cX0_changedPlaces 26 = .ok (.iload_n 3, 1) := by decide +kernel
theorem dX0_changedPlaces_27 : decode cX0_changedPlaces 27 = .ok (.bipush 12, 2) := by decide +kernel
theorem dX0_changedPlaces_29 : decode cX0_changedPlaces 29 = .ok (.if_icmp .ge 31, 3) := by decide +kernel
theorem dX0_changedPlaces_32 : decode cX0_changedPlaces 32 = .ok (.iload_n 1, 1) := by decide +kernel
theorem dX0_changedPlaces_33 : decode cX0_changedPlaces 33 = .ok (.iload_n 3, 1) := by decide +kernel
theorem dX0_changedPlaces_34 : decode cX0_changedPlaces 34 = .ok (.ishr, 1) := by decide +kernel
theorem dX0_changedPlaces_35 : decode cX0_changedPlaces 35 = .ok (.iconst 1, 1) := by decide +kernel
theorem dX0_changedPlaces_36 : decode cX0_changedPlaces 36 = .ok (.iand, 1) := by decide +kernel
theorem dX0_changedPlaces_37 : decode cX0_changedPlaces 37 = .ok (.ifCond .eq 17, 3) := by decide +kernel
theorem dX0_changedPlaces_40 : decode cX0_changedPlaces 40 = .ok (.aload_n 0, 1) := by decide +kernel
theorem dX0_changedPlaces_41 : decode cX0_changedPlaces 41 = .ok (.iload_n 3, 1) := by decide +kernel
theorem dX0_changedPlaces_42 : decode cX0_changedPlaces 42 = .ok (.invokevirtual 103, 3) := by decide +kernel
theorem dX0_changedPlaces_45 : decode cX0_changedPlaces 45 = .ok (.ifCond .eq 9, 3) := by decide +kernel
theorem dX0_changedPlaces_48 : decode cX0_changedPlaces 48 = .ok (.iload_n 2, 1) := by decide +kernel
theorem dX0_changedPlaces_49 : decode cX0_changedPlaces 49 = .ok (.iconst 1, 1) := by decide +kernel
theorem dX0_changedPlaces_50 : decode cX0_changedPlaces 50 = .ok (.iload_n 3, 1) := by decide +kernel
theorem dX0_changedPlaces_51 : decode cX0_changedPlaces 51 = .ok (.ishl, 1) := by decide +kernel
theorem dX0_changedPlaces_52 : decode cX0_changedPlaces 52 = .ok (.ior, 1) := by decide +kernel
theorem dX0_changedPlaces_53 : decode cX0_changedPlaces 53 = .ok (.istore_n 2, 1) := by decide +kernel
theorem dX0_changedPlaces_54 : decode cX0_changedPlaces 54 = .ok (.iinc 3 1, 3) := by decide +kernel
theorem dX0_changedPlaces_57 : decode cX0_changedPlaces 57 = .ok (.goto (-31), 3) := by decide +kernel
theorem dX0_changedPlaces_60 : decode cX0_changedPlaces 60 = .ok (.iload_n 2, 1) := by decide +kernel
theorem dX0_changedPlaces_61 : decode cX0_changedPlaces 61 = .ok (.ireturn, 1) := by decide +kernel
theorem dX0_differs_0 : decode cX0_differs 0 = .ok (.aload_n 0, 1) := by decide +kernel
theorem dX0_differs_1 : decode cX0_differs 1 = .ok (.getfield 90, 3) := by decide +kernel
theorem dX0_differs_4 : decode cX0_differs 4 = .ok (.iload_n 1, 1) := by decide +kernel
theorem dX0_differs_5 : decode cX0_differs 5 = .ok (.ishr, 1) := by decide +kernel
theorem dX0_differs_6 : decode cX0_differs 6 = .ok (.iconst 1, 1) := by decide +kernel
theorem dX0_differs_7 : decode cX0_differs 7 = .ok (.iand, 1) := by decide +kernel
theorem dX0_differs_8 : decode cX0_differs 8 = .ok (.ifCond .ne 5, 3) := by decide +kernel
theorem dX0_differs_11 : decode cX0_differs 11 = .ok (.iconst 1, 1) := by decide +kernel
theorem dX0_differs_12 : decode cX0_differs 12 = .ok (.ireturn, 1) := by decide +kernel
theorem dX0_differs_13 : decode cX0_differs 13 = .ok (.aload_n 0, 1) := by decide +kernel
theorem dX0_differs_14 : decode cX0_differs 14 = .ok (.getfield 60, 3) := by decide +kernel
theorem dX0_differs_17 : decode cX0_differs 17 = .ok (.iload_n 1, 1) := by decide +kernel
theorem dX0_differs_18 : decode cX0_differs 18 = .ok (.ishr, 1) := by decide +kernel
theorem dX0_differs_19 : decode cX0_differs 19 = .ok (.iconst 1, 1) := by decide +kernel
theorem dX0_differs_20 : decode cX0_differs 20 = .ok (.iand, 1) := by decide +kernel
theorem dX0_differs_21 : decode cX0_differs 21 = .ok (.ifCond .ne 5, 3) := by decide +kernel
theorem dX0_differs_24 : decode cX0_differs 24 = .ok (.iconst 0, 1) := by decide +kernel
theorem dX0_differs_25 : decode cX0_differs 25 = .ok (.ireturn, 1) := by decide +kernel
theorem dX0_differs_26 : decode cX0_differs 26 = .ok (.aload_n 0, 1) := by decide +kernel
theorem dX0_differs_27 : decode cX0_differs 27 = .ok (.getfield 26, 3) := by decide +kernel
theorem dX0_differs_30 : decode cX0_differs 30 = .ok (.iload_n 1, 1) := by decide +kernel
theorem dX0_differs_31 : decode cX0_differs 31 = .ok (.iaload, 1) := by decide +kernel
theorem dX0_differs_32 : decode cX0_differs 32 = .ok (.aload_n 0, 1) := by decide +kernel
theorem dX0_differs_33 : decode cX0_differs 33 = .ok (.getfield 7, 3) := by decide +kernel
theorem dX0_differs_36 : decode cX0_differs 36 = .ok (.iload_n 1, 1) := by decide +kernel
theorem dX0_differs_37 : decode cX0_differs 37 = .ok (.iaload, 1) := by decide +kernel
theorem dX0_differs_38 : decode cX0_differs 38 = .ok (.if_icmp .ne 45, 3) := by decide +kernel
theorem dX0_differs_41 : decode cX0_differs 41 = .ok (.aload_n 0, 1) := by decide +kernel
theorem dX0_differs_42 : decode cX0_differs 42 = .ok (.getfield 29, 3) := by decide +kernel
theorem dX0_differs_45 : decode cX0_differs 45 = .ok (.iconst 2, 1) := by decide +kernel
theorem dX0_differs_46 : decode cX0_differs 46 = .ok (.iload_n 1, 1) := by decide +kernel
theorem dX0_differs_47 : decode cX0_differs 47 = .ok (.imul, 1) := by decide +kernel
theorem dX0_differs_48 : decode cX0_differs 48 = .ok (.baload, 1) := by decide +kernel
theorem dX0_differs_49 : decode cX0_differs 49 = .ok (.aload_n 0, 1) := by decide +kernel
theorem dX0_differs_50 : decode cX0_differs 50 = .ok (.getfield 13, 3) := by decide +kernel
theorem dX0_differs_53 : decode cX0_differs 53 = .ok (.iconst 2, 1) := by decide +kernel
theorem dX0_differs_54 : decode cX0_differs 54 = .ok (.iload_n 1, 1) := by decide +kernel
theorem dX0_differs_55 : decode cX0_differs 55 = .ok (.imul, 1) := by decide +kernel
theorem dX0_differs_56 : decode cX0_differs 56 = .ok (.baload, 1) := by decide +kernel
theorem dX0_differs_57 : decode cX0_differs 57 = .ok (.if_icmp .ne 26, 3) := by decide +kernel
theorem dX0_differs_60 : decode cX0_differs 60 = .ok (.aload_n 0, 1) := by decide +kernel
theorem dX0_differs_61 : decode cX0_differs 61 = .ok (.getfield 29, 3) := by decide +kernel
theorem dX0_differs_64 : decode cX0_differs 64 = .ok (.iconst 2, 1) := by decide +kernel
theorem dX0_differs_65 : decode cX0_differs 65 = .ok (.iload_n 1, 1) := by decide +kernel
theorem dX0_differs_66 : decode cX0_differs 66 = .ok (.imul, 1) := by decide +kernel
theorem dX0_differs_67 : decode cX0_differs 67 = .ok (.iconst 1, 1) := by decide +kernel
theorem dX0_differs_68 : decode cX0_differs 68 = .ok (.iadd, 1) := by decide +kernel
theorem dX0_differs_69 : decode cX0_differs 69 = .ok (.baload, 1) := by decide +kernel
theorem dX0_differs_70 : decode cX0_differs 70 = .ok (.aload_n 0, 1) := by decide +kernel
theorem dX0_differs_71 : decode cX0_differs 71 = .ok (.getfield 13, 3) := by decide +kernel
theorem dX0_differs_74 : decode cX0_differs 74 = .ok (.iconst 2, 1) := by decide +kernel
theorem dX0_differs_75 : decode cX0_differs 75 = .ok (.iload_n 1, 1) := by decide +kernel
theorem dX0_differs_76 : decode cX0_differs 76 = .ok (.imul, 1) := by decide +kernel
theorem dX0_differs_77 : decode cX0_differs 77 = .ok (.iconst 1, 1) := by decide +kernel
theorem dX0_differs_78 : decode cX0_differs 78 = .ok (.iadd, 1) := by decide +kernel
theorem dX0_differs_79 : decode cX0_differs 79 = .ok (.baload, 1) := by decide +kernel
theorem dX0_differs_80 : decode cX0_differs 80 = .ok (.if_icmp .eq 7, 3) := by decide +kernel
theorem dX0_differs_83 : decode cX0_differs 83 = .ok (.iconst 1, 1) := by decide +kernel
theorem dX0_differs_84 : decode cX0_differs 84 = .ok (.goto 4, 3) := by decide +kernel
theorem dX0_differs_87 : decode cX0_differs 87 = .ok (.iconst 0, 1) := by decide +kernel
theorem dX0_differs_88 : decode cX0_differs 88 = .ok (.ireturn, 1) := by decide +kernel
theorem dX0_writeLog_0 : decode cX0_writeLog 0 = .ok (.aload_n 0, 1) := by decide +kernel
theorem dX0_writeLog_1 : decode cX0_writeLog 1 = .ok (.iconst 0, 1) := by decide +kernel
theorem dX0_writeLog_2 : decode cX0_writeLog 2 = .ok (.putfield 80, 3) := by decide +kernel
theorem dX0_writeLog_5 : decode cX0_writeLog 5 = .ok (.aload_n 0, 1) := by decide +kernel
theorem dX0_writeLog_6 : decode cX0_writeLog 6 = .ok (.iconst 0, 1) := by decide +kernel
theorem dX0_writeLog_7 : decode cX0_writeLog 7 = .ok (.putfield 83, 3) := by decide +kernel
theorem dX0_writeLog_10 : decode cX0_writeLog 10 = .ok (.iconst 0, 1) := by decide +kernel
theorem dX0_writeLog_11 : decode cX0_writeLog 11 = .ok (.istore_n 3, 1) := by decide +kernel
theorem dX0_writeLog_12 : decode cX0_writeLog 12 = .ok (.iload_n 3, 1) := by decide +kernel
theorem dX0_writeLog_13 : decode cX0_writeLog 13 = .ok (.bipush 12, 2) := by decide +kernel
theorem dX0_writeLog_15 : decode cX0_writeLog 15 = .ok (.if_icmp .ge 111, 3) := by decide +kernel
theorem dX0_writeLog_18 : decode cX0_writeLog 18 = .ok (.aload_n 0, 1) := by decide +kernel
theorem dX0_writeLog_19 : decode cX0_writeLog 19 = .ok (.getfield 80, 3) := by decide +kernel
theorem dX0_writeLog_22 : decode cX0_writeLog 22 = .ok (.iload_n 2, 1) := by decide +kernel
theorem dX0_writeLog_23 : decode cX0_writeLog 23 = .ok (.if_icmp .ge 103, 3) := by decide +kernel
theorem dX0_writeLog_26 : decode cX0_writeLog 26 = .ok (.iload_n 1, 1) := by decide +kernel
theorem dX0_writeLog_27 : decode cX0_writeLog 27 = .ok (.iload_n 3, 1) := by decide +kernel
theorem dX0_writeLog_28 : decode cX0_writeLog 28 = .ok (.ishr, 1) := by decide +kernel
theorem dX0_writeLog_29 : decode cX0_writeLog 29 = .ok (.iconst 1, 1) := by decide +kernel
theorem dX0_writeLog_30 : decode cX0_writeLog 30 = .ok (.iand, 1) := by decide +kernel
theorem dX0_writeLog_31 : decode cX0_writeLog 31 = .ok (.ifCond .ne 6, 3) := by decide +kernel
theorem dX0_writeLog_34 : decode cX0_writeLog 34 = .ok (.goto 86, 3) := by decide +kernel
theorem dX0_writeLog_37 : decode cX0_writeLog 37 = .ok (.aload_n 0, 1) := by decide +kernel
theorem dX0_writeLog_38 : decode cX0_writeLog 38 = .ok (.iload_n 3, 1) := by decide +kernel
theorem dX0_writeLog_39 : decode cX0_writeLog 39 = .ok (.invokevirtual 63, 3) := by decide +kernel
theorem dX0_writeLog_42 : decode cX0_writeLog 42 = .ok (.aload_n 0, 1) := by decide +kernel
theorem dX0_writeLog_43 : decode cX0_writeLog 43 = .ok (.getfield 17, 3) := by decide +kernel
theorem dX0_writeLog_46 : decode cX0_writeLog 46 = .ok (.aload_n 0, 1) := by decide +kernel
theorem dX0_writeLog_47 : decode cX0_writeLog 47 = .ok (.getfield 80, 3) := by decide +kernel
theorem dX0_writeLog_50 : decode cX0_writeLog 50 = .ok (.iload_n 3, 1) := by decide +kernel
theorem dX0_writeLog_51 : decode cX0_writeLog 51 = .ok (.i2b, 1) := by decide +kernel
theorem dX0_writeLog_52 : decode cX0_writeLog 52 = .ok (.bastore, 1) := by decide +kernel
theorem dX0_writeLog_53 : decode cX0_writeLog 53 = .ok (.aload_n 0, 1) := by decide +kernel
theorem dX0_writeLog_54 : decode cX0_writeLog 54 = .ok (.getfield 20, 3) := by decide +kernel
theorem dX0_writeLog_57 : decode cX0_writeLog 57 = .ok (.aload_n 0, 1) := by decide +kernel
theorem dX0_writeLog_58 : decode cX0_writeLog 58 = .ok (.getfield 80, 3) := by decide +kernel
theorem dX0_writeLog_61 : decode cX0_writeLog 61 = .ok (.aload_n 0, 1) := by decide +kernel
theorem dX0_writeLog_62 : decode cX0_writeLog 62 = .ok (.getfield 26, 3) := by decide +kernel
theorem dX0_writeLog_65 : decode cX0_writeLog 65 = .ok (.iload_n 3, 1) := by decide +kernel
theorem dX0_writeLog_66 : decode cX0_writeLog 66 = .ok (.iaload, 1) := by decide +kernel
theorem dX0_writeLog_67 : decode cX0_writeLog 67 = .ok (.iastore, 1) := by decide +kernel
theorem dX0_writeLog_68 : decode cX0_writeLog 68 = .ok (.aload_n 0, 1) := by decide +kernel
theorem dX0_writeLog_69 : decode cX0_writeLog 69 = .ok (.getfield 23, 3) := by decide +kernel
theorem dX0_writeLog_72 : decode cX0_writeLog 72 = .ok (.iconst 2, 1) := by decide +kernel
theorem dX0_writeLog_73 : decode cX0_writeLog 73 = .ok (.aload_n 0, 1) := by decide +kernel
theorem dX0_writeLog_74 : decode cX0_writeLog 74 = .ok (.getfield 80, 3) := by decide +kernel
theorem dX0_writeLog_77 : decode cX0_writeLog 77 = .ok (.imul, 1) := by decide +kernel
theorem dX0_writeLog_78 : decode cX0_writeLog 78 = .ok (.aload_n 0, 1) := by decide +kernel
theorem dX0_writeLog_79 : decode cX0_writeLog 79 = .ok (.getfield 29, 3) := by decide +kernel
theorem dX0_writeLog_82 : decode cX0_writeLog 82 = .ok (.iconst 2, 1) := by decide +kernel
theorem dX0_writeLog_83 : decode cX0_writeLog 83 = .ok (.iload_n 3, 1) := by decide +kernel
theorem dX0_writeLog_84 : decode cX0_writeLog 84 = .ok (.imul, 1) := by decide +kernel
theorem dX0_writeLog_85 : decode cX0_writeLog 85 = .ok (.baload, 1) := by decide +kernel
theorem dX0_writeLog_86 : decode cX0_writeLog 86 = .ok (.bastore, 1) := by decide +kernel
theorem dX0_writeLog_87 : decode cX0_writeLog 87 = .ok (.aload_n 0, 1) := by decide +kernel
theorem dX0_writeLog_88 : decode cX0_writeLog 88 = .ok (.getfield 23, 3) := by decide +kernel
theorem dX0_writeLog_91 : decode cX0_writeLog 91 = .ok (.iconst 2, 1) := by decide +kernel
theorem dX0_writeLog_92 : decode cX0_writeLog 92 = .ok (.aload_n 0, 1) := by decide +kernel
theorem dX0_writeLog_93 : decode cX0_writeLog 93 = .ok (.getfield 80, 3) := by decide +kernel
theorem dX0_writeLog_96 : decode cX0_writeLog 96 = .ok (.imul, 1) := by decide +kernel
theorem dX0_writeLog_97 : decode cX0_writeLog 97 = .ok (.iconst 1, 1) := by decide +kernel
theorem dX0_writeLog_98 : decode cX0_writeLog 98 = .ok (.iadd, 1) := by decide +kernel
theorem dX0_writeLog_99 : decode cX0_writeLog 99 = .ok (.aload_n 0, 1) := by decide +kernel
theorem dX0_writeLog_100 : decode cX0_writeLog 100 = .ok (.getfield 29, 3) := by decide +kernel
theorem dX0_writeLog_103 : decode cX0_writeLog 103 = .ok (.iconst 2, 1) := by decide +kernel
theorem dX0_writeLog_104 : decode cX0_writeLog 104 = .ok (.iload_n 3, 1) := by decide +kernel
theorem dX0_writeLog_105 : decode cX0_writeLog 105 = .ok (.imul, 1) := by decide +kernel
theorem dX0_writeLog_106 : decode cX0_writeLog 106 = .ok (.iconst 1, 1) := by decide +kernel
theorem dX0_writeLog_107 : decode cX0_writeLog 107 = .ok (.iadd, 1) := by decide +kernel
theorem dX0_writeLog_108 : decode cX0_writeLog 108 = .ok (.baload, 1) := by decide +kernel
theorem dX0_writeLog_109 : decode cX0_writeLog 109 = .ok (.bastore, 1) := by decide +kernel
theorem dX0_writeLog_110 : decode cX0_writeLog 110 = .ok (.aload_n 0, 1) := by decide +kernel
theorem dX0_writeLog_111 : decode cX0_writeLog 111 = .ok (.dup, 1) := by decide +kernel
theorem dX0_writeLog_112 : decode cX0_writeLog 112 = .ok (.getfield 80, 3) := by decide +kernel
theorem dX0_writeLog_115 : decode cX0_writeLog 115 = .ok (.iconst 1, 1) := by decide +kernel
theorem dX0_writeLog_116 : decode cX0_writeLog 116 = .ok (.iadd, 1) := by decide +kernel
theorem dX0_writeLog_117 : decode cX0_writeLog 117 = .ok (.putfield 80, 3) := by decide +kernel
theorem dX0_writeLog_120 : decode cX0_writeLog 120 = .ok (.iinc 3 1, 3) := by decide +kernel
theorem dX0_writeLog_123 : decode cX0_writeLog 123 = .ok (.goto (-111), 3) := by decide +kernel
theorem dX0_writeLog_126 : decode cX0_writeLog 126 = .ok (.return_, 1) := by decide +kernel
theorem dX0_writeMark_0 : decode cX0_writeMark 0 = .ok (.aload_n 0, 1) := by decide +kernel
theorem dX0_writeMark_1 : decode cX0_writeMark 1 = .ok (.aload_n 0, 1) := by decide +kernel
theorem dX0_writeMark_2 : decode cX0_writeMark 2 = .ok (.getfield 39, 3) := by decide +kernel
theorem dX0_writeMark_5 : decode cX0_writeMark 5 = .ok (.putfield 106, 3) := by decide +kernel
theorem dX0_writeMark_8 : decode cX0_writeMark 8 = .ok (.aload_n 0, 1) := by decide +kernel
theorem dX0_writeMark_9 : decode cX0_writeMark 9 = .ok (.aload_n 0, 1) := by decide +kernel
theorem dX0_writeMark_10 : decode cX0_writeMark 10 = .ok (.aload_n 0, 1) := by decide +kernel
theorem dX0_writeMark_11 : decode cX0_writeMark 11 = .ok (.getfield 39, 3) := by decide +kernel
theorem dX0_writeMark_14 : decode cX0_writeMark 14 = .ok (.ifCond .ge 7, 3) := by decide +kernel
theorem dX0_writeMark_17 : decode cX0_writeMark 17 = .ok (.iconst 0, 1) := by decide +kernel
theorem dX0_writeMark_18 : decode cX0_writeMark 18 = .ok (.goto 9, 3) := by decide +kernel
theorem dX0_writeMark_21 : decode cX0_writeMark 21 = .ok (.iconst 1, 1) := by decide +kernel
theorem dX0_writeMark_22 : decode cX0_writeMark 22 = .ok (.aload_n 0, 1) := by decide +kernel
theorem dX0_writeMark_23 : decode cX0_writeMark 23 = .ok (.getfield 39, 3) := by decide +kernel
theorem dX0_writeMark_26 : decode cX0_writeMark 26 = .ok (.ishl, 1) := by decide +kernel
theorem dX0_writeMark_27 : decode cX0_writeMark 27 = .ok (.invokevirtual 96, 3) := by decide +kernel
theorem dX0_writeMark_30 : decode cX0_writeMark 30 = .ok (.putfield 109, 3) := by decide +kernel
theorem dX0_writeMark_33 : decode cX0_writeMark 33 = .ok (.aload_n 0, 1) := by decide +kernel
theorem dX0_writeMark_34 : decode cX0_writeMark 34 = .ok (.iconst 1, 1) := by decide +kernel
theorem dX0_writeMark_35 : decode cX0_writeMark 35 = .ok (.putfield 83, 3) := by decide +kernel
theorem dX0_writeMark_38 : decode cX0_writeMark 38 = .ok (.return_, 1) := by decide +kernel
theorem dX0_moveData_0 : decode cX0_moveData 0 = .ok (.iconst 0, 1) := by decide +kernel
theorem dX0_moveData_1 : decode cX0_moveData 1 = .ok (.istore_n 2, 1) := by decide +kernel
theorem dX0_moveData_2 : decode cX0_moveData 2 = .ok (.iload_n 2, 1) := by decide +kernel
theorem dX0_moveData_3 : decode cX0_moveData 3 = .ok (.aload_n 0, 1) := by decide +kernel
theorem dX0_moveData_4 : decode cX0_moveData 4 = .ok (.getfield 80, 3) := by decide +kernel
theorem dX0_moveData_7 : decode cX0_moveData 7 = .ok (.if_icmp .ge 69, 3) := by decide +kernel
theorem dX0_moveData_10 : decode cX0_moveData 10 = .ok (.iload_n 2, 1) := by decide +kernel
theorem dX0_moveData_11 : decode cX0_moveData 11 = .ok (.iload_n 1, 1) := by decide +kernel
theorem dX0_moveData_12 : decode cX0_moveData 12 = .ok (.if_icmp .ge 64, 3) := by decide +kernel
theorem dX0_moveData_15 : decode cX0_moveData 15 = .ok (.aload_n 0, 1) := by decide +kernel
theorem dX0_moveData_16 : decode cX0_moveData 16 = .ok (.getfield 17, 3) := by decide +kernel
theorem dX0_moveData_19 : decode cX0_moveData 19 = .ok (.iload_n 2, 1) := by decide +kernel
theorem dX0_moveData_20 : decode cX0_moveData 20 = .ok (.baload, 1) := by decide +kernel
theorem dX0_moveData_21 : decode cX0_moveData 21 = .ok (.istore_n 3, 1) := by decide +kernel
theorem dX0_moveData_22 : decode cX0_moveData 22 = .ok (.aload_n 0, 1) := by decide +kernel
theorem dX0_moveData_23 : decode cX0_moveData 23 = .ok (.getfield 7, 3) := by decide +kernel
theorem dX0_moveData_26 : decode cX0_moveData 26 = .ok (.iload_n 3, 1) := by decide +kernel
theorem dX0_moveData_27 : decode cX0_moveData 27 = .ok (.aload_n 0, 1) := by decide +kernel
theorem dX0_moveData_28 : decode cX0_moveData 28 = .ok (.getfield 20, 3) := by decide +kernel
theorem dX0_moveData_31 : decode cX0_moveData 31 = .ok (.iload_n 2, 1) := by decide +kernel
theorem dX0_moveData_32 : decode cX0_moveData 32 = .ok (.iaload, 1) := by decide +kernel
theorem dX0_moveData_33 : decode cX0_moveData 33 = .ok (.iastore, 1) := by decide +kernel
theorem dX0_moveData_34 : decode cX0_moveData 34 = .ok (.aload_n 0, 1) := by decide +kernel
theorem dX0_moveData_35 : decode cX0_moveData 35 = .ok (.getfield 13, 3) := by decide +kernel
theorem dX0_moveData_38 : decode cX0_moveData 38 = .ok (.iconst 2, 1) := by decide +kernel
theorem dX0_moveData_39 : decode cX0_moveData 39 = .ok (.iload_n 3, 1) := by decide +kernel
theorem dX0_moveData_40 : decode cX0_moveData 40 = .ok (.imul, 1) := by decide +kernel
theorem dX0_moveData_41 : decode cX0_moveData 41 = .ok (.aload_n 0, 1) := by decide +kernel
theorem dX0_moveData_42 : decode cX0_moveData 42 = .ok (.getfield 23, 3) := by decide +kernel
theorem dX0_moveData_45 : decode cX0_moveData 45 = .ok (.iconst 2, 1) := by decide +kernel
theorem dX0_moveData_46 : decode cX0_moveData 46 = .ok (.iload_n 2, 1) := by decide +kernel
theorem dX0_moveData_47 : decode cX0_moveData 47 = .ok (.imul, 1) := by decide +kernel
theorem dX0_moveData_48 : decode cX0_moveData 48 = .ok (.baload, 1) := by decide +kernel
theorem dX0_moveData_49 : decode cX0_moveData 49 = .ok (.bastore, 1) := by decide +kernel
theorem dX0_moveData_50 : decode cX0_moveData 50 = .ok (.aload_n 0, 1) := by decide +kernel
theorem dX0_moveData_51 : decode cX0_moveData 51 = .ok (.getfield 13, 3) := by decide +kernel
theorem dX0_moveData_54 : decode cX0_moveData 54 = .ok (.iconst 2, 1) := by decide +kernel
theorem dX0_moveData_55 : decode cX0_moveData 55 = .ok (.iload_n 3, 1) := by decide +kernel
theorem dX0_moveData_56 : decode cX0_moveData 56 = .ok (.imul, 1) := by decide +kernel
theorem dX0_moveData_57 : decode cX0_moveData 57 = .ok (.iconst 1, 1) := by decide +kernel
theorem dX0_moveData_58 : decode cX0_moveData 58 = .ok (.iadd, 1) := by decide +kernel
theorem dX0_moveData_59 : decode cX0_moveData 59 = .ok (.aload_n 0, 1) := by decide +kernel
theorem dX0_moveData_60 : decode cX0_moveData 60 = .ok (.getfield 23, 3) := by decide +kernel
theorem dX0_moveData_63 : decode cX0_moveData 63 = .ok (.iconst 2, 1) := by decide +kernel
theorem dX0_moveData_64 : decode cX0_moveData 64 = .ok (.iload_n 2, 1) := by decide +kernel
theorem dX0_moveData_65 : decode cX0_moveData 65 = .ok (.imul, 1) := by decide +kernel
theorem dX0_moveData_66 : decode cX0_moveData 66 = .ok (.iconst 1, 1) := by decide +kernel
theorem dX0_moveData_67 : decode cX0_moveData 67 = .ok (.iadd, 1) := by decide +kernel
theorem dX0_moveData_68 : decode cX0_moveData 68 = .ok (.baload, 1) := by decide +kernel
theorem dX0_moveData_69 : decode cX0_moveData 69 = .ok (.bastore, 1) := by decide +kernel
theorem dX0_moveData_70 : decode cX0_moveData 70 = .ok (.iinc 2 1, 3) := by decide +kernel
theorem dX0_moveData_73 : decode cX0_moveData 73 = .ok (.goto (-71), 3) := by decide +kernel
theorem dX0_moveData_76 : decode cX0_moveData 76 = .ok (.iload_n 1, 1) := by decide +kernel
theorem dX0_moveData_77 : decode cX0_moveData 77 = .ok (.aload_n 0, 1) := by decide +kernel
theorem dX0_moveData_78 : decode cX0_moveData 78 = .ok (.getfield 80, 3) := by decide +kernel
theorem dX0_moveData_81 : decode cX0_moveData 81 = .ok (.if_icmp .ge 4, 3) := by decide +kernel
theorem dX0_moveData_84 : decode cX0_moveData 84 = .ok (.return_, 1) := by decide +kernel
theorem dX0_moveData_85 : decode cX0_moveData 85 = .ok (.aload_n 0, 1) := by decide +kernel
theorem dX0_moveData_86 : decode cX0_moveData 86 = .ok (.aload_n 0, 1) := by decide +kernel
theorem dX0_moveData_87 : decode cX0_moveData 87 = .ok (.getfield 106, 3) := by decide +kernel
theorem dX0_moveData_90 : decode cX0_moveData 90 = .ok (.putfield 35, 3) := by decide +kernel
theorem dX0_moveData_93 : decode cX0_moveData 93 = .ok (.aload_n 0, 1) := by decide +kernel
theorem dX0_moveData_94 : decode cX0_moveData 94 = .ok (.aload_n 0, 1) := by decide +kernel
theorem dX0_moveData_95 : decode cX0_moveData 95 = .ok (.getfield 109, 3) := by decide +kernel
theorem dX0_moveData_98 : decode cX0_moveData 98 = .ok (.putfield 90, 3) := by decide +kernel
theorem dX0_moveData_101 : decode cX0_moveData 101 = .ok (.return_, 1) := by decide +kernel
theorem dX0_abort_0 : decode cX0_abort 0 = .ok (.aload_n 0, 1) := by decide +kernel
theorem dX0_abort_1 : decode cX0_abort 1 = .ok (.invokevirtual 87, 3) := by decide +kernel
theorem dX0_abort_4 : decode cX0_abort 4 = .ok (.aload_n 0, 1) := by decide +kernel
theorem dX0_abort_5 : decode cX0_abort 5 = .ok (.aload_n 0, 1) := by decide +kernel
theorem dX0_abort_6 : decode cX0_abort 6 = .ok (.getfield 90, 3) := by decide +kernel
theorem dX0_abort_9 : decode cX0_abort 9 = .ok (.invokevirtual 50, 3) := by decide +kernel
theorem dX0_abort_12 : decode cX0_abort 12 = .ok (.ireturn, 1) := by decide +kernel
theorem dX0_restartProgram_0 : decode cX0_restartProgram 0 = .ok (.aload_n 0, 1) := by decide +kernel
theorem dX0_restartProgram_1 : decode cX0_restartProgram 1 = .ok (.iconst 0, 1) := by decide +kernel
theorem dX0_restartProgram_2 : decode cX0_restartProgram 2 = .ok (.putfield 60, 3) := by decide +kernel
theorem dX0_restartProgram_5 : decode cX0_restartProgram 5 = .ok (.aload_n 0, 1) := by decide +kernel
theorem dX0_restartProgram_6 : decode cX0_restartProgram 6 = .ok (.aload_n 0, 1) := by decide +kernel
theorem dX0_restartProgram_7 : decode cX0_restartProgram 7 = .ok (.getfield 90, 3) := by decide +kernel
theorem dX0_restartProgram_10 : decode cX0_restartProgram 10 = .ok (.putfield 57, 3) := by decide +kernel
theorem dX0_restartProgram_13 : decode cX0_restartProgram 13 = .ok (.aload_n 0, 1) := by decide +kernel
theorem dX0_restartProgram_14 : decode cX0_restartProgram 14 = .ok (.aload_n 0, 1) := by decide +kernel
theorem dX0_restartProgram_15 : decode cX0_restartProgram 15 = .ok (.getfield 35, 3) := by decide +kernel
theorem dX0_restartProgram_18 : decode cX0_restartProgram 18 = .ok (.putfield 39, 3) := by decide +kernel
theorem dX0_restartProgram_21 : decode cX0_restartProgram 21 = .ok (.iconst 0, 1) := by decide +kernel
theorem dX0_restartProgram_22 : decode cX0_restartProgram 22 = .ok (.istore_n 1, 1) := by decide +kernel
theorem dX0_restartProgram_23 : decode cX0_restartProgram 23 = .ok (.iload_n 1, 1) := by decide +kernel
theorem dX0_restartProgram_24 : decode cX0_restartProgram 24 = .ok (.iconst 4, 1) := by decide +kernel
theorem dX0_restartProgram_25 : decode cX0_restartProgram 25 = .ok (.if_icmp .ge 16, 3) := by decide +kernel
theorem dX0_restartProgram_28 : decode cX0_restartProgram 28 = .ok (.aload_n 0, 1) := by decide +kernel
theorem dX0_restartProgram_29 : decode cX0_restartProgram 29 = .ok (.getfield 32, 3) := by decide +kernel
theorem dX0_restartProgram_32 : decode cX0_restartProgram 32 = .ok (.iload_n 1, 1) := by decide +kernel
theorem dX0_restartProgram_33 : decode cX0_restartProgram 33 = .ok (.iconst (-1), 1) := by decide +kernel
theorem dX0_restartProgram_34 : decode cX0_restartProgram 34 = .ok (.bastore, 1) := by decide +kernel
theorem dX0_restartProgram_35 : decode cX0_restartProgram 35 = .ok (.iinc 1 1, 3) := by decide +kernel
theorem dX0_restartProgram_38 : decode cX0_restartProgram 38 = .ok (.goto (-15), 3) := by decide +kernel
theorem dX0_restartProgram_41 : decode cX0_restartProgram 41 = .ok (.return_, 1) := by decide +kernel
theorem dX0_crash_0 : decode cX0_crash 0 = .ok (.aload_n 0, 1) := by decide +kernel
theorem dX0_crash_1 : decode cX0_crash 1 = .ok (.invokevirtual 67, 3) := by decide +kernel
theorem dX0_crash_4 : decode cX0_crash 4 = .ok (.istore_n 2, 1) := by decide +kernel
theorem dX0_crash_5 : decode cX0_crash 5 = .ok (.aload_n 0, 1) := by decide +kernel
theorem dX0_crash_6 : decode cX0_crash 6 = .ok (.iload_n 2, 1) := by decide +kernel
theorem dX0_crash_7 : decode cX0_crash 7 = .ok (.invokevirtual 50, 3) := by decide +kernel
theorem dX0_crash_10 : decode cX0_crash 10 = .ok (.istore_n 3, 1) := by decide +kernel
theorem dX0_crash_11 : decode cX0_crash 11 = .ok (.iload_n 1, 1) := by decide +kernel
theorem dX0_crash_12 : decode cX0_crash 12 = .ok (.ifCond .ge 7, 3) := by decide +kernel
theorem dX0_crash_15 : decode cX0_crash 15 = .ok (.iconst 0, 1) := by decide +kernel
theorem dX0_crash_16 : decode cX0_crash 16 = .ok (.goto 4, 3) := by decide +kernel
theorem dX0_crash_19 : decode cX0_crash 19 = .ok (.iload_n 1, 1) := by decide +kernel
theorem dX0_crash_20 : decode cX0_crash 20 = .ok (.istore 4, 2) := by decide +kernel
theorem dX0_crash_22 : decode cX0_crash 22 = .ok (.aload_n 0, 1) := by decide +kernel
theorem dX0_crash_23 : decode cX0_crash 23 = .ok (.iload_n 2, 1) := by decide +kernel
theorem dX0_crash_24 : decode cX0_crash 24 = .ok (.iload 4, 2) := by decide +kernel
theorem dX0_crash_26 : decode cX0_crash 26 = .ok (.invokevirtual 70, 3) := by decide +kernel
theorem dX0_crash_29 : decode cX0_crash 29 = .ok (.iload 4, 2) := by decide +kernel
theorem dX0_crash_31 : decode cX0_crash 31 = .ok (.iload_n 3, 1) := by decide +kernel
theorem dX0_crash_32 : decode cX0_crash 32 = .ok (.if_icmp .le 33, 3) := by decide +kernel
theorem dX0_crash_35 : decode cX0_crash 35 = .ok (.aload_n 0, 1) := by decide +kernel
theorem dX0_crash_36 : decode cX0_crash 36 = .ok (.invokevirtual 74, 3) := by decide +kernel
theorem dX0_crash_39 : decode cX0_crash 39 = .ok (.iload 4, 2) := by decide +kernel
theorem dX0_crash_41 : decode cX0_crash 41 = .ok (.iload_n 3, 1) := by decide +kernel
theorem dX0_crash_42 : decode cX0_crash 42 = .ok (.isub, 1) := by decide +kernel
theorem dX0_crash_43 : decode cX0_crash 43 = .ok (.iconst 1, 1) := by decide +kernel
theorem dX0_crash_44 : decode cX0_crash 44 = .ok (.isub, 1) := by decide +kernel
theorem dX0_crash_45 : decode cX0_crash 45 = .ok (.istore 5, 2) := by decide +kernel
theorem dX0_crash_47 : decode cX0_crash 47 = .ok (.aload_n 0, 1) := by decide +kernel
theorem dX0_crash_48 : decode cX0_crash 48 = .ok (.iload 5, 2) := by decide +kernel
theorem dX0_crash_50 : decode cX0_crash 50 = .ok (.bipush 12, 2) := by decide +kernel
theorem dX0_crash_52 : decode cX0_crash 52 = .ok (.if_icmp .le 8, 3) := by decide +kernel
theorem dX0_crash_55 : decode cX0_crash 55 = .ok (.bipush 12, 2) := by decide +kernel
theorem dX0_crash_57 : decode cX0_crash 57 = .ok (.goto 5, 3) := by decide +kernel
theorem dX0_crash_60 : decode cX0_crash 60 = .ok (.iload 5, 2) := by decide +kernel
theorem dX0_crash_62 : decode cX0_crash 62 = .ok (.invokevirtual 77, 3) := by decide +kernel
theorem dX0_crash_65 : decode cX0_crash 65 = .ok (.aload_n 0, 1) := by decide +kernel
theorem dX0_crash_66 : decode cX0_crash 66 = .ok (.getfield 83, 3) := by decide +kernel
theorem dX0_crash_69 : decode cX0_crash 69 = .ok (.ifCond .eq 7, 3) := by decide +kernel
theorem dX0_crash_72 : decode cX0_crash 72 = .ok (.iconst 1, 1) := by decide +kernel
theorem dX0_crash_73 : decode cX0_crash 73 = .ok (.goto 4, 3) := by decide +kernel
theorem dX0_crash_76 : decode cX0_crash 76 = .ok (.iconst 0, 1) := by decide +kernel
theorem dX0_crash_77 : decode cX0_crash 77 = .ok (.istore 5, 2) := by decide +kernel
theorem dX0_crash_79 : decode cX0_crash 79 = .ok (.aload_n 0, 1) := by decide +kernel
theorem dX0_crash_80 : decode cX0_crash 80 = .ok (.invokevirtual 93, 3) := by decide +kernel
theorem dX0_crash_83 : decode cX0_crash 83 = .ok (.iload 5, 2) := by decide +kernel
theorem dX0_crash_85 : decode cX0_crash 85 = .ok (.ireturn, 1) := by decide +kernel
theorem dX0_recover_0 : decode cX0_recover 0 = .ok (.aload_n 0, 1) := by decide +kernel
theorem dX0_recover_1 : decode cX0_recover 1 = .ok (.getfield 83, 3) := by decide +kernel
theorem dX0_recover_4 : decode cX0_recover 4 = .ok (.ifCond .eq 9, 3) := by decide +kernel
theorem dX0_recover_7 : decode cX0_recover 7 = .ok (.aload_n 0, 1) := by decide +kernel
theorem dX0_recover_8 : decode cX0_recover 8 = .ok (.bipush 12, 2) := by decide +kernel
theorem dX0_recover_10 : decode cX0_recover 10 = .ok (.invokevirtual 77, 3) := by decide +kernel
theorem dX0_recover_13 : decode cX0_recover 13 = .ok (.aload_n 0, 1) := by decide +kernel
theorem dX0_recover_14 : decode cX0_recover 14 = .ok (.iconst 0, 1) := by decide +kernel
theorem dX0_recover_15 : decode cX0_recover 15 = .ok (.putfield 80, 3) := by decide +kernel
theorem dX0_recover_18 : decode cX0_recover 18 = .ok (.aload_n 0, 1) := by decide +kernel
theorem dX0_recover_19 : decode cX0_recover 19 = .ok (.iconst 0, 1) := by decide +kernel
theorem dX0_recover_20 : decode cX0_recover 20 = .ok (.putfield 83, 3) := by decide +kernel
theorem dX0_recover_23 : decode cX0_recover 23 = .ok (.aload_n 0, 1) := by decide +kernel
theorem dX0_recover_24 : decode cX0_recover 24 = .ok (.invokevirtual 87, 3) := by decide +kernel
theorem dX0_recover_27 : decode cX0_recover 27 = .ok (.return_, 1) := by decide +kernel
theorem dX0_reachable_0 : decode cX0_reachable 0 = .ok (.aload_n 0, 1) := by decide +kernel
theorem dX0_reachable_1 : decode cX0_reachable 1 = .ok (.aload_n 0, 1) := by decide +kernel
theorem dX0_reachable_2 : decode cX0_reachable 2 = .ok (.getfield 39, 3) := by decide +kernel
theorem dX0_reachable_5 : decode cX0_reachable 5 = .ok (.ifCond .ge 7, 3) := by decide +kernel
theorem dX0_reachable_8 : decode cX0_reachable 8 = .ok (.iconst 0, 1) := by decide +kernel
theorem dX0_reachable_9 : decode cX0_reachable 9 = .ok (.goto 9, 3) := by decide +kernel
theorem dX0_reachable_12 : decode cX0_reachable 12 = .ok (.iconst 1, 1) := by decide +kernel
theorem dX0_reachable_13 : decode cX0_reachable 13 = .ok (.aload_n 0, 1) := by decide +kernel
theorem dX0_reachable_14 : decode cX0_reachable 14 = .ok (.getfield 39, 3) := by decide +kernel
theorem dX0_reachable_17 : decode cX0_reachable 17 = .ok (.ishl, 1) := by decide +kernel
theorem dX0_reachable_18 : decode cX0_reachable 18 = .ok (.invokevirtual 96, 3) := by decide +kernel
theorem dX0_reachable_21 : decode cX0_reachable 21 = .ok (.istore_n 1, 1) := by decide +kernel
theorem dX0_reachable_22 : decode cX0_reachable 22 = .ok (.aload_n 0, 1) := by decide +kernel
theorem dX0_reachable_23 : decode cX0_reachable 23 = .ok (.iload_n 1, 1) := by decide +kernel
theorem dX0_reachable_24 : decode cX0_reachable 24 = .ok (.invokevirtual 50, 3) := by decide +kernel
theorem dX0_reachable_27 : decode cX0_reachable 27 = .ok (.ireturn, 1) := by decide +kernel
end
section
set_option maxRecDepth 100000
theorem dX1_init_0 : decode cX1_init 0 = .ok (.aload_n 0, 1) := by decide +kernel
theorem dX1_init_1 : decode cX1_init 1 = .ok (.invokespecial 1, 3) := by decide +kernel
theorem dX1_init_4 : decode cX1_init 4 = .ok (.aload_n 0, 1) := by decide +kernel
theorem dX1_init_5 : decode cX1_init 5 = .ok (.bipush 12, 2) := by decide +kernel
theorem dX1_init_7 : decode cX1_init 7 = .ok (.newarray .int, 2) := by decide +kernel
theorem dX1_init_9 : decode cX1_init 9 = .ok (.putfield 7, 3) := by decide +kernel
theorem dX1_init_12 : decode cX1_init 12 = .ok (.aload_n 0, 1) := by decide +kernel
theorem dX1_init_13 : decode cX1_init 13 = .ok (.bipush 24, 2) := by decide +kernel
theorem dX1_init_15 : decode cX1_init 15 = .ok (.newarray .int, 2) := by decide +kernel
theorem dX1_init_17 : decode cX1_init 17 = .ok (.putfield 13, 3) := by decide +kernel
theorem dX1_init_20 : decode cX1_init 20 = .ok (.aload_n 0, 1) := by decide +kernel
theorem dX1_init_21 : decode cX1_init 21 = .ok (.iconst (-1), 1) := by decide +kernel
theorem dX1_init_22 : decode cX1_init 22 = .ok (.putfield 16, 3) := by decide +kernel
theorem dX1_init_25 : decode cX1_init 25 = .ok (.aload_n 0, 1) := by decide +kernel
theorem dX1_init_26 : decode cX1_init 26 = .ok (.iconst 4, 1) := by decide +kernel
theorem dX1_init_27 : decode cX1_init 27 = .ok (.newarray .int, 2) := by decide +kernel
theorem dX1_init_29 : decode cX1_init 29 = .ok (.putfield 20, 3) := by decide +kernel
theorem dX1_init_32 : decode cX1_init 32 = .ok (.aload_n 0, 1) := by decide +kernel
theorem dX1_init_33 : decode cX1_init 33 = .ok (.bipush 12, 2) := by decide +kernel
theorem dX1_init_35 : decode cX1_init 35 = .ok (.newarray .int, 2) := by decide +kernel
theorem dX1_init_37 : decode cX1_init 37 = .ok (.putfield 23, 3) := by decide +kernel
theorem dX1_init_40 : decode cX1_init 40 = .ok (.aload_n 0, 1) := by decide +kernel
theorem dX1_init_41 : decode cX1_init 41 = .ok (.bipush 24, 2) := by decide +kernel
theorem dX1_init_43 : decode cX1_init 43 = .ok (.newarray .int, 2) := by decide +kernel
theorem dX1_init_45 : decode cX1_init 45 = .ok (.putfield 26, 3) := by decide +kernel
theorem dX1_init_48 : decode cX1_init 48 = .ok (.aload_n 0, 1) := by decide +kernel
theorem dX1_init_49 : decode cX1_init 49 = .ok (.iconst (-1), 1) := by decide +kernel
theorem dX1_init_50 : decode cX1_init 50 = .ok (.putfield 29, 3) := by decide +kernel
theorem dX1_init_53 : decode cX1_init 53 = .ok (.aload_n 0, 1) := by decide +kernel
theorem dX1_init_54 : decode cX1_init 54 = .ok (.invokevirtual 32, 3) := by decide +kernel
theorem dX1_init_57 : decode cX1_init 57 = .ok (.return_, 1) := by decide +kernel
theorem dX1_forget_0 : decode cX1_forget 0 = .ok (.iconst 0, 1) := by decide +kernel
theorem dX1_forget_1 : decode cX1_forget 1 = .ok (.istore_n 1, 1) := by decide +kernel
theorem dX1_forget_2 : decode cX1_forget 2 = .ok (.iload_n 1, 1) := by decide +kernel
theorem dX1_forget_3 : decode cX1_forget 3 = .ok (.iconst 4, 1) := by decide +kernel
theorem dX1_forget_4 : decode cX1_forget 4 = .ok (.if_icmp .ge 16, 3) := by decide +kernel
theorem dX1_forget_7 : decode cX1_forget 7 = .ok (.aload_n 0, 1) := by decide +kernel
theorem dX1_forget_8 : decode cX1_forget 8 = .ok (.getfield 20, 3) := by decide +kernel
theorem dX1_forget_11 : decode cX1_forget 11 = .ok (.iload_n 1, 1) := by decide +kernel
theorem dX1_forget_12 : decode cX1_forget 12 = .ok (.iconst (-1), 1) := by decide +kernel
theorem dX1_forget_13 : decode cX1_forget 13 = .ok (.iastore, 1) := by decide +kernel
theorem dX1_forget_14 : decode cX1_forget 14 = .ok (.iinc 1 1, 3) := by decide +kernel
theorem dX1_forget_17 : decode cX1_forget 17 = .ok (.goto (-15), 3) := by decide +kernel
theorem dX1_forget_20 : decode cX1_forget 20 = .ok (.return_, 1) := by decide +kernel
theorem dX1_make_0 : decode cX1_make 0 = .ok (.aload_n 0, 1) := by decide +kernel
theorem dX1_make_1 : decode cX1_make 1 = .ok (.iload_n 1, 1) := by decide +kernel
theorem dX1_make_2 : decode cX1_make 2 = .ok (.invokevirtual 51, 3) := by decide +kernel
theorem dX1_make_5 : decode cX1_make 5 = .ok (.ifCond .ne 5, 3) := by decide +kernel
theorem dX1_make_8 : decode cX1_make 8 = .ok (.iconst (-1), 1) := by decide +kernel
theorem dX1_make_9 : decode cX1_make 9 = .ok (.ireturn, 1) := by decide +kernel
theorem dX1_make_10 : decode cX1_make 10 = .ok (.aload_n 0, 1) := by decide +kernel
theorem dX1_make_11 : decode cX1_make 11 = .ok (.invokevirtual 55, 3) := by decide +kernel
theorem dX1_make_14 : decode cX1_make 14 = .ok (.istore_n 3, 1) := by decide +kernel
theorem dX1_make_15 : decode cX1_make 15 = .ok (.iconst 0, 1) := by decide +kernel
theorem dX1_make_16 : decode cX1_make 16 = .ok (.istore 4, 2) := by decide +kernel
theorem dX1_make_18 : decode cX1_make 18 = .ok (.iload 4, 2) := by decide +kernel
theorem dX1_make_20 : decode cX1_make 20 = .ok (.bipush 12, 2) := by decide +kernel
theorem dX1_make_22 : decode cX1_make 22 = .ok (.if_icmp .ge 59, 3) := by decide +kernel
theorem dX1_make_25 : decode cX1_make 25 = .ok (.aload_n 0, 1) := by decide +kernel
theorem dX1_make_26 : decode cX1_make 26 = .ok (.iload_n 3, 1) := by decide +kernel
theorem dX1_make_27 : decode cX1_make 27 = .ok (.iload 4, 2) := by decide +kernel
theorem dX1_make_29 : decode cX1_make 29 = .ok (.invokevirtual 35, 3) := by decide +kernel
theorem dX1_make_32 : decode cX1_make 32 = .ok (.ifCond .ne 43, 3) := by decide +kernel
theorem dX1_make_35 : decode cX1_make 35 = .ok (.aload_n 0, 1) := by decide +kernel
theorem dX1_make_36 : decode cX1_make 36 = .ok (.getfield 7, 3) := by decide +kernel
theorem dX1_make_39 : decode cX1_make 39 = .ok (.iload 4, 2) := by decide +kernel
theorem dX1_make_41 : decode cX1_make 41 = .ok (.iload_n 2, 1) := by decide +kernel
theorem dX1_make_42 : decode cX1_make 42 = .ok (.iastore, 1) := by decide +kernel
theorem dX1_make_43 : decode cX1_make 43 = .ok (.aload_n 0, 1) := by decide +kernel
theorem dX1_make_44 : decode cX1_make 44 = .ok (.getfield 13, 3) := by decide +kernel
theorem dX1_make_47 : decode cX1_make 47 = .ok (.iconst 2, 1) := by decide +kernel
theorem dX1_make_48 : decode cX1_make 48 = .ok (.iload 4, 2) := by decide +kernel
theorem dX1_make_50 : decode cX1_make 50 = .ok (.imul, 1) := by decide +kernel
theorem dX1_make_51 : decode cX1_make 51 = .ok (.iconst (-1), 1) := by decide +kernel
theorem dX1_make_52 : decode cX1_make 52 = .ok (.iastore, 1) := by decide +kernel
theorem dX1_make_53 : decode cX1_make 53 = .ok (.aload_n 0, 1) := by decide +kernel
theorem dX1_make_54 : decode cX1_make 54 = .ok (.getfield 13, 3) := by decide +kernel
theorem dX1_make_57 : decode cX1_make 57 = .ok (.iconst 2, 1) := by decide +kernel
theorem dX1_make_58 : decode cX1_make 58 = .ok (.iload 4, 2) := by decide +kernel
theorem dX1_make_60 : decode cX1_make 60 = .ok (.imul, 1) := by decide +kernel
theorem dX1_make_61 : decode cX1_make 61 = .ok (.iconst 1, 1) := by decide +kernel
theorem dX1_make_62 : decode cX1_make 62 = .ok (.iadd, 1) := by decide +kernel
theorem dX1_make_63 : decode cX1_make 63 = .ok (.iconst (-1), 1) := by decide +kernel
theorem dX1_make_64 : decode cX1_make 64 = .ok (.iastore, 1) := by decide +kernel
theorem dX1_make_65 : decode cX1_make 65 = .ok (.aload_n 0, 1) := by decide +kernel
theorem dX1_make_66 : decode cX1_make 66 = .ok (.getfield 20, 3) := by decide +kernel
theorem dX1_make_69 : decode cX1_make 69 = .ok (.iload_n 1, 1) := by decide +kernel
theorem dX1_make_70 : decode cX1_make 70 = .ok (.iload 4, 2) := by decide +kernel
theorem dX1_make_72 : decode cX1_make 72 = .ok (.iastore, 1) := by decide +kernel
theorem dX1_make_73 : decode cX1_make 73 = .ok (.iload_n 1, 1) := by decide +kernel
theorem dX1_make_74 : decode cX1_make 74 = .ok (.ireturn, 1) := by decide +kernel
theorem dX1_make_75 : decode cX1_make 75 = .ok (.iinc 4 1, 3) := by decide +kernel
theorem dX1_make_78 : decode cX1_make 78 = .ok (.goto (-60), 3) := by decide +kernel
theorem dX1_make_81 : decode cX1_make 81 = .ok (.bipush (-2), 2) := by decide +kernel
theorem dX1_make_83 : decode cX1_make 83 = .ok (.ireturn, 1) := by decide +kernel
theorem dX1_isHandle_0 : decode cX1_isHandle 0 = .ok (.iload_n 1, 1) := by decide +kernel
theorem dX1_isHandle_1 : decode cX1_isHandle 1 = .ok (.ifCond .lt 12, 3) := by decide +kernel
theorem dX1_isHandle_4 : decode cX1_isHandle 4 = .ok (.iload_n 1, 1) := by decide +kernel
theorem dX1_isHandle_5 : decode cX1_isHandle 5 = .ok (.iconst 3, 1) := by decide +kernel
theorem dX1_isHandle_6 : decode cX1_isHandle 6 = .ok (.if_icmp .gt 7, 3) := by decide +kernel
theorem dX1_isHandle_9 : decode cX1_isHandle 9 = .ok (.iconst 1, 1) := by decide +kernel
theorem dX1_isHandle_10 : decode cX1_isHandle 10 = .ok (.goto 4, 3) := by decide +kernel
theorem dX1_isHandle_13 : decode cX1_isHandle 13 = .ok (.iconst 0, 1) := by decide +kernel
theorem dX1_isHandle_14 : decode cX1_isHandle 14 = .ok (.ireturn, 1) := by decide +kernel
theorem dX1_used_0 : decode cX1_used 0 = .ok (.aload_n 0, 1) := by decide +kernel
theorem dX1_used_1 : decode cX1_used 1 = .ok (.aload_n 0, 1) := by decide +kernel
theorem dX1_used_2 : decode cX1_used 2 = .ok (.getfield 16, 3) := by decide +kernel
theorem dX1_used_5 : decode cX1_used 5 = .ok (.invokevirtual 39, 3) := by decide +kernel
theorem dX1_used_8 : decode cX1_used 8 = .ok (.istore_n 1, 1) := by decide +kernel
theorem dX1_used_9 : decode cX1_used 9 = .ok (.iconst 0, 1) := by decide +kernel
theorem dX1_used_10 : decode cX1_used 10 = .ok (.istore_n 2, 1) := by decide +kernel
theorem dX1_used_11 : decode cX1_used 11 = .ok (.iload_n 2, 1) := by decide +kernel
theorem dX1_used_12 : decode cX1_used 12 = .ok (.iconst 4, 1) := by decide +kernel
theorem dX1_used_13 : decode cX1_used 13 = .ok (.if_icmp .ge 22, 3) := by decide +kernel
theorem dX1_used_16 : decode cX1_used 16 = .ok (.iload_n 1, 1) := by decide +kernel
theorem dX1_used_17 : decode cX1_used 17 = .ok (.aload_n 0, 1) := by decide +kernel
theorem dX1_used_18 : decode cX1_used 18 = .ok (.aload_n 0, 1) := by decide +kernel
theorem dX1_used_19 : decode cX1_used 19 = .ok (.getfield 20, 3) := by decide +kernel
theorem dX1_used_22 : decode cX1_used 22 = .ok (.iload_n 2, 1) := by decide +kernel
theorem dX1_used_23 : decode cX1_used 23 = .ok (.iaload, 1) := by decide +kernel
theorem dX1_used_24 : decode cX1_used 24 = .ok (.invokevirtual 39, 3) := by decide +kernel
theorem dX1_used_27 : decode cX1_used 27 = .ok (.ior, 1) := by decide +kernel
theorem dX1_used_28 : decode cX1_used 28 = .ok (.istore_n 1, 1) := by decide +kernel
theorem dX1_used_29 : decode cX1_used 29 = .ok (.iinc 2 1, 3) := by decide +kernel
theorem dX1_used_32 : decode cX1_used 32 = .ok (.goto (-21), 3) := by decide +kernel
theorem dX1_used_35 : decode cX1_used 35 = .ok (.aload_n 0, 1) := by decide +kernel
theorem dX1_used_36 : decode cX1_used 36 = .ok (.iload_n 1, 1) := by decide +kernel
theorem dX1_used_37 : decode cX1_used 37 = .ok (.iconst 1, 1) := by decide +kernel
theorem dX1_used_38 : decode cX1_used 38 = .ok (.invokevirtual 43, 3) := by decide +kernel
theorem dX1_used_41 : decode cX1_used 41 = .ok (.aload_n 0, 1) := by decide +kernel
theorem dX1_used_42 : decode cX1_used 42 = .ok (.invokevirtual 47, 3) := by decide +kernel
theorem dX1_used_45 : decode cX1_used 45 = .ok (.ior, 1) := by decide +kernel
theorem dX1_used_46 : decode cX1_used 46 = .ok (.ireturn, 1) := by decide +kernel
theorem dX1_bit_0 : decode cX1_bit 0 = .ok (.iload_n 1, 1) := by decide +kernel
theorem dX1_bit_1 : decode cX1_bit 1 = .ok (.ifCond .ge 7, 3) := by decide +kernel
theorem dX1_bit_4 : decode cX1_bit 4 = .ok (.iconst 0, 1) := by decide +kernel
theorem dX1_bit_5 : decode cX1_bit 5 = .ok (.goto 6, 3) := by decide +kernel
theorem dX1_bit_8 : decode cX1_bit 8 = .ok (.iconst 1, 1) := by decide +kernel
theorem dX1_bit_9 : decode cX1_bit 9 = .ok (.iload_n 1, 1) := by decide +kernel
theorem dX1_bit_10 : decode cX1_bit 10 = .ok (.ishl, 1) := by decide +kernel
theorem dX1_bit_11 : decode cX1_bit 11 = .ok (.ireturn, 1) := by decide +kernel
theorem dX1_spread_0 : decode cX1_spread 0 = .ok (.iload_n 1, 1) := by decide +kernel
theorem dX1_spread_1 : decode cX1_spread 1 = .ok (.istore_n 3, 1) := by decide +kernel
theorem dX1_spread_2 : decode cX1_spread 2 = .ok (.iconst 0, 1) := by decide +kernel
theorem dX1_spread_3 : decode cX1_spread 3 = .ok (.istore 4, 2) := by decide +kernel
theorem dX1_spread_5 : decode cX1_spread 5 = .ok (.iload 4, 2) := by decide +kernel
theorem dX1_spread_7 : decode cX1_spread 7 = .ok (.bipush 12, 2) := by decide +kernel
theorem dX1_spread_9 : decode cX1_spread 9 = .ok (.if_icmp .ge 72, 3) := by decide +kernel
theorem dX1_spread_12 : decode cX1_spread 12 = .ok (.iconst 0, 1) := by decide +kernel
theorem dX1_spread_13 : decode cX1_spread 13 = .ok (.istore 5, 2) := by decide +kernel
theorem dX1_spread_15 : decode cX1_spread 15 = .ok (.iload 5, 2) := by decide +kernel
theorem dX1_spread_17 : decode cX1_spread 17 = .ok (.bipush 24, 2) := by decide +kernel
theorem dX1_spread_19 : decode cX1_spread 19 = .ok (.if_icmp .ge 56, 3) := by decide +kernel
theorem dX1_spread_22 : decode cX1_spread 22 = .ok (.iload_n 2, 1) := by decide +kernel
theorem dX1_spread_23 : decode cX1_spread 23 = .ok (.ifCond .eq 13, 3) := by decide +kernel
theorem dX1_spread_26 : decode cX1_spread 26 = .ok (.aload_n 0, 1) := by decide +kernel
theorem dX1_spread_27 : decode cX1_spread 27 = .ok (.getfield 13, 3) := by decide +kernel
theorem dX1_spread_30 : decode cX1_spread 30 = .ok (.iload 5, 2) := by decide +kernel
theorem dX1_spread_32 : decode cX1_spread 32 = .ok (.iaload, 1) := by decide +kernel
theorem dX1_spread_33 : decode cX1_spread 33 = .ok (.goto 10, 3) := by decide +kernel
theorem dX1_spread_36 : decode cX1_spread 36 = .ok (.aload_n 0, 1) := by decide +kernel
theorem dX1_spread_37 : decode cX1_spread 37 = .ok (.getfield 26, 3) := by decide +kernel
theorem dX1_spread_40 : decode cX1_spread 40 = .ok (.iload 5, 2) := by decide +kernel
theorem dX1_spread_42 : decode cX1_spread 42 = .ok (.iaload, 1) := by decide +kernel
theorem dX1_spread_43 : decode cX1_spread 43 = .ok (.istore 6, 2) := by decide +kernel
theorem dX1_spread_45 : decode cX1_spread 45 = .ok (.aload_n 0, 1) := by decide +kernel
theorem dX1_spread_46 : decode cX1_spread 46 = .ok (.iload_n 3, 1) := by decide +kernel
theorem dX1_spread_47 : decode cX1_spread 47 = .ok (.iload 5, 2) := by decide +kernel
theorem dX1_spread_49 : decode cX1_spread 49 = .ok (.iconst 2, 1) := by decide +kernel
theorem dX1_spread_50 : decode cX1_spread 50 = .ok (.idiv, 1) := by decide +kernel
theorem dX1_spread_51 : decode cX1_spread 51 = .ok (.invokevirtual 35, 3) := by decide +kernel
theorem dX1_spread_54 : decode cX1_spread 54 = .ok (.ifCond .eq 15, 3) := by decide +kernel
theorem dX1_spread_57 : decode cX1_spread 57 = .ok (.iload 6, 2) := by decide +kernel
theorem dX1_spread_59 : decode cX1_spread 59 = .ok (.ifCond .lt 10, 3) := by decide +kernel
theorem dX1_spread_62 : decode cX1_spread 62 = .ok (.iload_n 3, 1) := by decide +kernel
theorem dX1_spread_63 : decode cX1_spread 63 = .ok (.iconst 1, 1) := by decide +kernel
theorem dX1_spread_64 : decode cX1_spread 64 = .ok (.iload 6, 2) := by decide +kernel
theorem dX1_spread_66 : decode cX1_spread 66 = .ok (.ishl, 1) := by decide +kernel
theorem dX1_spread_67 : decode cX1_spread 67 = .ok (.ior, 1) := by decide +kernel
theorem dX1_spread_68 : decode cX1_spread 68 = .ok (.istore_n 3, 1) := by decide +kernel
theorem dX1_spread_69 : decode cX1_spread 69 = .ok (.iinc 5 1, 3) := by decide +kernel
theorem dX1_spread_72 : decode cX1_spread 72 = .ok (.goto (-57), 3) := by decide +kernel
theorem dX1_spread_75 : decode cX1_spread 75 = .ok (.iinc 4 1, 3) := by decide +kernel
theorem dX1_spread_78 : decode cX1_spread 78 = .ok (.goto (-73), 3) := by decide +kernel
theorem dX1_spread_81 : decode cX1_spread 81 = .ok (.iload_n 3, 1) := by decide +kernel
theorem dX1_spread_82 : decode cX1_spread 82 = .ok (.ireturn, 1) := by decide +kernel
theorem dX1_in_0 : decode cX1_in 0 = .ok (.iload_n 1, 1) := by decide +kernel
theorem dX1_in_1 : decode cX1_in 1 = .ok (.iload_n 2, 1) := by decide +kernel
theorem dX1_in_2 : decode cX1_in 2 = .ok (.ishr, 1) := by decide +kernel
theorem dX1_in_3 : decode cX1_in 3 = .ok (.iconst 1, 1) := by decide +kernel
theorem dX1_in_4 : decode cX1_in 4 = .ok (.iand, 1) := by decide +kernel
theorem dX1_in_5 : decode cX1_in 5 = .ok (.iconst 1, 1) := by decide +kernel
theorem dX1_in_6 : decode cX1_in 6 = .ok (.if_icmp .ne 7, 3) := by decide +kernel
theorem dX1_in_9 : decode cX1_in 9 = .ok (.iconst 1, 1) := by decide +kernel
theorem dX1_in_10 : decode cX1_in 10 = .ok (.goto 4, 3) := by decide +kernel
theorem dX1_in_13 : decode cX1_in 13 = .ok (.iconst 0, 1) := by decide +kernel
theorem dX1_in_14 : decode cX1_in 14 = .ok (.ireturn, 1) := by decide +kernel
theorem dX1_committed_0 : decode cX1_committed 0 = .ok (.aload_n 0, 1) := by decide +kernel
theorem dX1_committed_1 : decode cX1_committed 1 = .ok (.aload_n 0, 1) := by decide +kernel
theorem dX1_committed_2 : decode cX1_committed 2 = .ok (.getfield 29, 3) := by decide +kernel
theorem dX1_committed_5 : decode cX1_committed 5 = .ok (.invokevirtual 39, 3) := by decide +kernel
theorem dX1_committed_8 : decode cX1_committed 8 = .ok (.istore_n 1, 1) := by decide +kernel
theorem dX1_committed_9 : decode cX1_committed 9 = .ok (.aload_n 0, 1) := by decide +kernel
theorem dX1_committed_10 : decode cX1_committed 10 = .ok (.iload_n 1, 1) := by decide +kernel
theorem dX1_committed_11 : decode cX1_committed 11 = .ok (.iconst 0, 1) := by decide +kernel
theorem dX1_committed_12 : decode cX1_committed 12 = .ok (.invokevirtual 43, 3) := by decide +kernel
theorem dX1_committed_15 : decode cX1_committed 15 = .ok (.ireturn, 1) := by decide +kernel
theorem dX1_getRoot_0 : decode cX1_getRoot 0 = .ok (.aload_n 0, 1) := by decide +kernel
theorem dX1_getRoot_1 : decode cX1_getRoot 1 = .ok (.iload_n 1, 1) := by decide +kernel
theorem dX1_getRoot_2 : decode cX1_getRoot 2 = .ok (.invokevirtual 51, 3) := by decide +kernel
theorem dX1_getRoot_5 : decode cX1_getRoot 5 = .ok (.ifCond .ne 5, 3) := by decide +kernel
theorem dX1_getRoot_8 : decode cX1_getRoot 8 = .ok (.iconst (-1), 1) := by decide +kernel
theorem dX1_getRoot_9 : decode cX1_getRoot 9 = .ok (.ireturn, 1) := by decide +kernel
theorem dX1_getRoot_10 : decode cX1_getRoot 10 = .ok (.aload_n 0, 1) := by decide +kernel
theorem dX1_getRoot_11 : decode cX1_getRoot 11 = .ok (.getfield 20, 3) := by decide +kernel
theorem dX1_getRoot_14 : decode cX1_getRoot 14 = .ok (.iload_n 1, 1) := by decide +kernel
theorem dX1_getRoot_15 : decode cX1_getRoot 15 = .ok (.aload_n 0, 1) := by decide +kernel
theorem dX1_getRoot_16 : decode cX1_getRoot 16 = .ok (.getfield 16, 3) := by decide +kernel
theorem dX1_getRoot_19 : decode cX1_getRoot 19 = .ok (.iastore, 1) := by decide +kernel
theorem dX1_getRoot_20 : decode cX1_getRoot 20 = .ok (.aload_n 0, 1) := by decide +kernel
theorem dX1_getRoot_21 : decode cX1_getRoot 21 = .ok (.aload_n 0, 1) := by decide +kernel
theorem dX1_getRoot_22 : decode cX1_getRoot 22 = .ok (.getfield 16, 3) := by decide +kernel
theorem dX1_getRoot_25 : decode cX1_getRoot 25 = .ok (.invokevirtual 58, 3) := by decide +kernel
theorem dX1_getRoot_28 : decode cX1_getRoot 28 = .ok (.ireturn, 1) := by decide +kernel
theorem dX1_leads_0 : decode cX1_leads 0 = .ok (.iload_n 1, 1) := by decide +kernel
theorem dX1_leads_1 : decode cX1_leads 1 = .ok (.ifCond .ge 7, 3) := by decide +kernel
theorem dX1_leads_4 : decode cX1_leads 4 = .ok (.iconst 0, 1) := by decide +kernel
theorem dX1_leads_5 : decode cX1_leads 5 = .ok (.goto 4, 3) := by decide +kernel
theorem dX1_leads_8 : decode cX1_leads 8 = .ok (.iconst 1, 1) := by decide +kernel
theorem dX1_leads_9 : decode cX1_leads 9 = .ok (.ireturn, 1) := by decide +kernel
theorem dX1_setRoot_0 : decode cX1_setRoot 0 = .ok (.aload_n 0, 1) := by decide +kernel
theorem dX1_setRoot_1 : decode cX1_setRoot 1 = .ok (.iload_n 1, 1) := by decide +kernel
theorem dX1_setRoot_2 : decode cX1_setRoot 2 = .ok (.invokevirtual 51, 3) := by decide +kernel
theorem dX1_setRoot_5 : decode cX1_setRoot 5 = .ok (.ifCond .ne 5, 3) := by decide +kernel
theorem dX1_setRoot_8 : decode cX1_setRoot 8 = .ok (.iconst (-1), 1) := by decide +kernel
theorem dX1_setRoot_9 : decode cX1_setRoot 9 = .ok (.ireturn, 1) := by decide +kernel
theorem dX1_setRoot_10 : decode cX1_setRoot 10 = .ok (.aload_n 0, 1) := by decide +kernel
theorem dX1_setRoot_11 : decode cX1_setRoot 11 = .ok (.aload_n 0, 1) := by decide +kernel
theorem dX1_setRoot_12 : decode cX1_setRoot 12 = .ok (.getfield 20, 3) := by decide +kernel
theorem dX1_setRoot_15 : decode cX1_setRoot 15 = .ok (.iload_n 1, 1) := by decide +kernel
theorem dX1_setRoot_16 : decode cX1_setRoot 16 = .ok (.iaload, 1) := by decide +kernel
theorem dX1_setRoot_17 : decode cX1_setRoot 17 = .ok (.putfield 16, 3) := by decide +kernel
theorem dX1_setRoot_20 : decode cX1_setRoot 20 = .ok (.aload_n 0, 1) := by decide +kernel
theorem dX1_setRoot_21 : decode cX1_setRoot 21 = .ok (.aload_n 0, 1) := by decide +kernel
theorem dX1_setRoot_22 : decode cX1_setRoot 22 = .ok (.getfield 16, 3) := by decide +kernel
theorem dX1_setRoot_25 : decode cX1_setRoot 25 = .ok (.invokevirtual 58, 3) := by decide +kernel
theorem dX1_setRoot_28 : decode cX1_setRoot 28 = .ok (.ireturn, 1) := by decide +kernel
theorem dX1_follow_0 : decode cX1_follow 0 = .ok (.aload_n 0, 1) := by decide +kernel
theorem dX1_follow_1 : decode cX1_follow 1 = .ok (.iload_n 1, 1) := by decide +kernel
theorem dX1_follow_2 : decode cX1_follow 2 = .ok (.invokevirtual 51, 3) := by decide +kernel
theorem dX1_follow_5 : decode cX1_follow 5 = .ok (.ifCond .eq 20, 3) := by decide +kernel
theorem dX1_follow_8 : decode cX1_follow 8 = .ok (.aload_n 0, 1) := by decide +kernel
theorem dX1_follow_9 : decode cX1_follow 9 = .ok (.iload_n 2, 1) := by decide +kernel
theorem dX1_follow_10 : decode cX1_follow 10 = .ok (.invokevirtual 51, 3) := by decide +kernel
theorem dX1_follow_13 : decode cX1_follow 13 = .ok (.ifCond .eq 12, 3) := by decide +kernel
theorem dX1_follow_16 : decode cX1_follow 16 = .ok (.iload_n 3, 1) := by decide +kernel
theorem dX1_follow_17 : decode cX1_follow 17 = .ok (.ifCond .lt 8, 3) := by decide +kernel
theorem dX1_follow_20 : decode cX1_follow 20 = .ok (.iload_n 3, 1) := by decide +kernel
theorem dX1_follow_21 : decode cX1_follow 21 = .ok (.iconst 1, 1) := by decide +kernel
theorem dX1_follow_22 : decode cX1_follow 22 = .ok (.if_icmp .le 5, 3) := by decide +kernel
theorem dX1_follow_25 : decode cX1_follow 25 = .ok (.iconst (-1), 1) := by decide +kernel
theorem dX1_follow_26 : decode cX1_follow 26 = .ok (.ireturn, 1) := by decide +kernel
theorem dX1_follow_27 : decode cX1_follow 27 = .ok (.aload_n 0, 1) := by decide +kernel
theorem dX1_follow_28 : decode cX1_follow 28 = .ok (.getfield 20, 3) := by decide +kernel
theorem dX1_follow_31 : decode cX1_follow 31 = .ok (.iload_n 2, 1) := by decide +kernel
theorem dX1_follow_32 : decode cX1_follow 32 = .ok (.iaload, 1) := by decide +kernel
theorem dX1_follow_33 : decode cX1_follow 33 = .ok (.ifCond .ge 6, 3) := by decide +kernel
theorem dX1_follow_36 : decode cX1_follow 36 = .ok (.bipush (-3), 2) := by decide +kernel
theorem dX1_follow_38 : decode cX1_follow 38 = .ok (.ireturn, 1) := by decide +kernel
theorem dX1_follow_39 : decode cX1_follow 39 = .ok (.aload_n 0, 1) := by decide +kernel
theorem dX1_follow_40 : decode cX1_follow 40 = .ok (.getfield 20, 3) := by decide +kernel
theorem dX1_follow_43 : decode cX1_follow 43 = .ok (.iload_n 1, 1) := by decide +kernel
theorem dX1_follow_44 : decode cX1_follow 44 = .ok (.aload_n 0, 1) := by decide +kernel
theorem dX1_follow_45 : decode cX1_follow 45 = .ok (.getfield 13, 3) := by decide +kernel
theorem dX1_follow_48 : decode cX1_follow 48 = .ok (.iconst 2, 1) := by decide +kernel
theorem dX1_follow_49 : decode cX1_follow 49 = .ok (.aload_n 0, 1) := by decide +kernel
theorem dX1_follow_50 : decode cX1_follow 50 = .ok (.getfield 20, 3) := by decide +kernel
theorem dX1_follow_53 : decode cX1_follow 53 = .ok (.iload_n 2, 1) := by decide +kernel
theorem dX1_follow_54 : decode cX1_follow 54 = .ok (.iaload, 1) := by decide +kernel
theorem dX1_follow_55 : decode cX1_follow 55 = .ok (.imul, 1) := by decide +kernel
theorem dX1_follow_56 : decode cX1_follow 56 = .ok (.iload_n 3, 1) := by decide +kernel
theorem dX1_follow_57 : decode cX1_follow 57 = .ok (.iadd, 1) := by decide +kernel
theorem dX1_follow_58 : decode cX1_follow 58 = .ok (.iaload, 1) := by decide +kernel
theorem dX1_follow_59 : decode cX1_follow 59 = .ok (.iastore, 1) := by decide +kernel
theorem dX1_follow_60 : decode cX1_follow 60 = .ok (.aload_n 0, 1) := by decide +kernel
theorem dX1_follow_61 : decode cX1_follow 61 = .ok (.aload_n 0, 1) := by decide +kernel
theorem dX1_follow_62 : decode cX1_follow 62 = .ok (.getfield 20, 3) := by decide +kernel
theorem dX1_follow_65 : decode cX1_follow 65 = .ok (.iload_n 1, 1) := by decide +kernel
theorem dX1_follow_66 : decode cX1_follow 66 = .ok (.iaload, 1) := by decide +kernel
theorem dX1_follow_67 : decode cX1_follow 67 = .ok (.invokevirtual 58, 3) := by decide +kernel
theorem dX1_follow_70 : decode cX1_follow 70 = .ok (.ireturn, 1) := by decide +kernel
theorem dX1_link_0 : decode cX1_link 0 = .ok (.aload_n 0, 1) := by decide +kernel
theorem dX1_link_1 : decode cX1_link 1 = .ok (.iload_n 1, 1) := by decide +kernel
theorem dX1_link_2 : decode cX1_link 2 = .ok (.invokevirtual 51, 3) := by decide +kernel
theorem dX1_link_5 : decode cX1_link 5 = .ok (.ifCond .eq 20, 3) := by decide +kernel
theorem dX1_link_8 : decode cX1_link 8 = .ok (.aload_n 0, 1) := by decide +kernel
theorem dX1_link_9 : decode cX1_link 9 = .ok (.iload_n 3, 1) := by decide +kernel
theorem dX1_link_10 : decode cX1_link 10 = .ok (.invokevirtual 51, 3) := by decide +kernel
theorem dX1_link_13 : decode cX1_link 13 = .ok (.ifCond .eq 12, 3) := by decide +kernel
theorem dX1_link_16 : decode cX1_link 16 = .ok (.iload_n 2, 1) := by decide +kernel
theorem dX1_link_17 : decode cX1_link 17 = .ok (.ifCond .lt 8, 3) := by decide +kernel
theorem dX1_link_20 : decode cX1_link 20 = .ok (.iload_n 2, 1) := by decide +kernel
theorem dX1_link_21 : decode cX1_link 21 = .ok (.iconst 1, 1) := by decide +kernel
theorem dX1_link_22 : decode cX1_link 22 = .ok (.if_icmp .le 5, 3) := by decide +kernel
theorem dX1_link_25 : decode cX1_link 25 = .ok (.iconst (-1), 1) := by decide +kernel
theorem dX1_link_26 : decode cX1_link 26 = .ok (.ireturn, 1) := by decide +kernel
theorem dX1_link_27 : decode cX1_link 27 = .ok (.aload_n 0, 1) := by decide +kernel
theorem dX1_link_28 : decode cX1_link 28 = .ok (.getfield 20, 3) := by decide +kernel
theorem dX1_link_31 : decode cX1_link 31 = .ok (.iload_n 1, 1) := by decide +kernel
theorem dX1_link_32 : decode cX1_link 32 = .ok (.iaload, 1) := by decide +kernel
theorem dX1_link_33 : decode cX1_link 33 = .ok (.ifCond .ge 6, 3) := by decide +kernel
theorem dX1_link_36 : decode cX1_link 36 = .ok (.bipush (-3), 2) := by decide +kernel
theorem dX1_link_38 : decode cX1_link 38 = .ok (.ireturn, 1) := by decide +kernel
theorem dX1_link_39 : decode cX1_link 39 = .ok (.aload_n 0, 1) := by decide +kernel
theorem dX1_link_40 : decode cX1_link 40 = .ok (.getfield 13, 3) := by decide +kernel
theorem dX1_link_43 : decode cX1_link 43 = .ok (.iconst 2, 1) := by decide +kernel
theorem dX1_link_44 : decode cX1_link 44 = .ok (.aload_n 0, 1) := by decide +kernel
theorem dX1_link_45 : decode cX1_link 45 = .ok (.getfield 20, 3) := by decide +kernel
theorem dX1_link_48 : decode cX1_link 48 = .ok (.iload_n 1, 1) := by decide +kernel
theorem dX1_link_49 : decode cX1_link 49 = .ok (.iaload, 1) := by decide +kernel
theorem dX1_link_50 : decode cX1_link 50 = .ok (.imul, 1) := by decide +kernel
theorem dX1_link_51 : decode cX1_link 51 = .ok (.iload_n 2, 1) := by decide +kernel
theorem dX1_link_52 : decode cX1_link 52 = .ok (.iadd, 1) := by decide +kernel
theorem dX1_link_53 : decode cX1_link 53 = .ok (.aload_n 0, 1) := by decide +kernel
theorem dX1_link_54 : decode cX1_link 54 = .ok (.getfield 20, 3) := by decide +kernel
theorem dX1_link_57 : decode cX1_link 57 = .ok (.iload_n 3, 1) := by decide +kernel
theorem dX1_link_58 : decode cX1_link 58 = .ok (.iaload, 1) := by decide +kernel
theorem dX1_link_59 : decode cX1_link 59 = .ok (.iastore, 1) := by decide +kernel
theorem dX1_link_60 : decode cX1_link 60 = .ok (.aload_n 0, 1) := by decide +kernel
theorem dX1_link_61 : decode cX1_link 61 = .ok (.aload_n 0, 1) := by decide +kernel
theorem dX1_link_62 : decode cX1_link 62 = .ok (.getfield 20, 3) := by decide +kernel
theorem dX1_link_65 : decode cX1_link 65 = .ok (.iload_n 3, 1) := by decide +kernel
theorem dX1_link_66 : decode cX1_link 66 = .ok (.iaload, 1) := by decide +kernel
theorem dX1_link_67 : decode cX1_link 67 = .ok (.invokevirtual 58, 3) := by decide +kernel
theorem dX1_link_70 : decode cX1_link 70 = .ok (.ireturn, 1) := by decide +kernel
theorem dX1_drop_0 : decode cX1_drop 0 = .ok (.aload_n 0, 1) := by decide +kernel
theorem dX1_drop_1 : decode cX1_drop 1 = .ok (.iload_n 1, 1) := by decide +kernel
theorem dX1_drop_2 : decode cX1_drop 2 = .ok (.invokevirtual 51, 3) := by decide +kernel
theorem dX1_drop_5 : decode cX1_drop 5 = .ok (.ifCond .ne 5, 3) := by decide +kernel
theorem dX1_drop_8 : decode cX1_drop 8 = .ok (.iconst (-1), 1) := by decide +kernel
end
section
set_option maxRecDepth 100000
theorem dX1_drop_9 : decode cX1_drop 9 = .ok (.ireturn, 1) := by decide +kernel
theorem dX1_drop_10 : decode cX1_drop 10 = .ok (.aload_n 0, 1) := by decide +kernel
theorem dX1_drop_11 : decode cX1_drop 11 = .ok (.aload_n 0, 1) := by decide +kernel
theorem dX1_drop_12 : decode cX1_drop 12 = .ok (.getfield 20, 3) := by decide +kernel
theorem dX1_drop_15 : decode cX1_drop 15 = .ok (.iload_n 1, 1) := by decide +kernel
theorem dX1_drop_16 : decode cX1_drop 16 = .ok (.iaload, 1) := by decide +kernel
theorem dX1_drop_17 : decode cX1_drop 17 = .ok (.invokevirtual 58, 3) := by decide +kernel
theorem dX1_drop_20 : decode cX1_drop 20 = .ok (.istore_n 2, 1) := by decide +kernel
theorem dX1_drop_21 : decode cX1_drop 21 = .ok (.aload_n 0, 1) := by decide +kernel
theorem dX1_drop_22 : decode cX1_drop 22 = .ok (.getfield 20, 3) := by decide +kernel
theorem dX1_drop_25 : decode cX1_drop 25 = .ok (.iload_n 1, 1) := by decide +kernel
theorem dX1_drop_26 : decode cX1_drop 26 = .ok (.iconst (-1), 1) := by decide +kernel
theorem dX1_drop_27 : decode cX1_drop 27 = .ok (.iastore, 1) := by decide +kernel
theorem dX1_drop_28 : decode cX1_drop 28 = .ok (.iload_n 2, 1) := by decide +kernel
theorem dX1_drop_29 : decode cX1_drop 29 = .ok (.ireturn, 1) := by decide +kernel
theorem dX1_value_0 : decode cX1_value 0 = .ok (.aload_n 0, 1) := by decide +kernel
theorem dX1_value_1 : decode cX1_value 1 = .ok (.iload_n 1, 1) := by decide +kernel
theorem dX1_value_2 : decode cX1_value 2 = .ok (.invokevirtual 51, 3) := by decide +kernel
theorem dX1_value_5 : decode cX1_value 5 = .ok (.ifCond .eq 26, 3) := by decide +kernel
theorem dX1_value_8 : decode cX1_value 8 = .ok (.aload_n 0, 1) := by decide +kernel
theorem dX1_value_9 : decode cX1_value 9 = .ok (.getfield 20, 3) := by decide +kernel
theorem dX1_value_12 : decode cX1_value 12 = .ok (.iload_n 1, 1) := by decide +kernel
theorem dX1_value_13 : decode cX1_value 13 = .ok (.iaload, 1) := by decide +kernel
theorem dX1_value_14 : decode cX1_value 14 = .ok (.ifCond .lt 17, 3) := by decide +kernel
theorem dX1_value_17 : decode cX1_value 17 = .ok (.aload_n 0, 1) := by decide +kernel
theorem dX1_value_18 : decode cX1_value 18 = .ok (.getfield 7, 3) := by decide +kernel
theorem dX1_value_21 : decode cX1_value 21 = .ok (.aload_n 0, 1) := by decide +kernel
theorem dX1_value_22 : decode cX1_value 22 = .ok (.getfield 20, 3) := by decide +kernel
theorem dX1_value_25 : decode cX1_value 25 = .ok (.iload_n 1, 1) := by decide +kernel
theorem dX1_value_26 : decode cX1_value 26 = .ok (.iaload, 1) := by decide +kernel
theorem dX1_value_27 : decode cX1_value 27 = .ok (.iaload, 1) := by decide +kernel
theorem dX1_value_28 : decode cX1_value 28 = .ok (.goto 4, 3) := by decide +kernel
theorem dX1_value_31 : decode cX1_value 31 = .ok (.iconst 0, 1) := by decide +kernel
theorem dX1_value_32 : decode cX1_value 32 = .ok (.ireturn, 1) := by decide +kernel
theorem dX1_setValue_0 : decode cX1_setValue 0 = .ok (.aload_n 0, 1) := by decide +kernel
theorem dX1_setValue_1 : decode cX1_setValue 1 = .ok (.iload_n 1, 1) := by decide +kernel
theorem dX1_setValue_2 : decode cX1_setValue 2 = .ok (.invokevirtual 51, 3) := by decide +kernel
theorem dX1_setValue_5 : decode cX1_setValue 5 = .ok (.ifCond .ne 5, 3) := by decide +kernel
theorem dX1_setValue_8 : decode cX1_setValue 8 = .ok (.iconst (-1), 1) := by decide +kernel
theorem dX1_setValue_9 : decode cX1_setValue 9 = .ok (.ireturn, 1) := by decide +kernel
theorem dX1_setValue_10 : decode cX1_setValue 10 = .ok (.aload_n 0, 1) := by decide +kernel
theorem dX1_setValue_11 : decode cX1_setValue 11 = .ok (.getfield 20, 3) := by decide +kernel
theorem dX1_setValue_14 : decode cX1_setValue 14 = .ok (.iload_n 1, 1) := by decide +kernel
theorem dX1_setValue_15 : decode cX1_setValue 15 = .ok (.iaload, 1) := by decide +kernel
theorem dX1_setValue_16 : decode cX1_setValue 16 = .ok (.ifCond .ge 6, 3) := by decide +kernel
theorem dX1_setValue_19 : decode cX1_setValue 19 = .ok (.bipush (-3), 2) := by decide +kernel
theorem dX1_setValue_21 : decode cX1_setValue 21 = .ok (.ireturn, 1) := by decide +kernel
theorem dX1_setValue_22 : decode cX1_setValue 22 = .ok (.aload_n 0, 1) := by decide +kernel
theorem dX1_setValue_23 : decode cX1_setValue 23 = .ok (.getfield 7, 3) := by decide +kernel
theorem dX1_setValue_26 : decode cX1_setValue 26 = .ok (.aload_n 0, 1) := by decide +kernel
theorem dX1_setValue_27 : decode cX1_setValue 27 = .ok (.getfield 20, 3) := by decide +kernel
theorem dX1_setValue_30 : decode cX1_setValue 30 = .ok (.iload_n 1, 1) := by decide +kernel
theorem dX1_setValue_31 : decode cX1_setValue 31 = .ok (.iaload, 1) := by decide +kernel
theorem dX1_setValue_32 : decode cX1_setValue 32 = .ok (.iload_n 2, 1) := by decide +kernel
theorem dX1_setValue_33 : decode cX1_setValue 33 = .ok (.iastore, 1) := by decide +kernel
theorem dX1_setValue_34 : decode cX1_setValue 34 = .ok (.iconst 1, 1) := by decide +kernel
theorem dX1_setValue_35 : decode cX1_setValue 35 = .ok (.ireturn, 1) := by decide +kernel
theorem dX1_same_0 : decode cX1_same 0 = .ok (.aload_n 0, 1) := by decide +kernel
theorem dX1_same_1 : decode cX1_same 1 = .ok (.iload_n 1, 1) := by decide +kernel
theorem dX1_same_2 : decode cX1_same 2 = .ok (.invokevirtual 51, 3) := by decide +kernel
theorem dX1_same_5 : decode cX1_same 5 = .ok (.ifCond .eq 39, 3) := by decide +kernel
theorem dX1_same_8 : decode cX1_same 8 = .ok (.aload_n 0, 1) := by decide +kernel
theorem dX1_same_9 : decode cX1_same 9 = .ok (.iload_n 2, 1) := by decide +kernel
theorem dX1_same_10 : decode cX1_same 10 = .ok (.invokevirtual 51, 3) := by decide +kernel
theorem dX1_same_13 : decode cX1_same 13 = .ok (.ifCond .eq 31, 3) := by decide +kernel
theorem dX1_same_16 : decode cX1_same 16 = .ok (.aload_n 0, 1) := by decide +kernel
theorem dX1_same_17 : decode cX1_same 17 = .ok (.getfield 20, 3) := by decide +kernel
theorem dX1_same_20 : decode cX1_same 20 = .ok (.iload_n 1, 1) := by decide +kernel
theorem dX1_same_21 : decode cX1_same 21 = .ok (.iaload, 1) := by decide +kernel
theorem dX1_same_22 : decode cX1_same 22 = .ok (.ifCond .lt 22, 3) := by decide +kernel
theorem dX1_same_25 : decode cX1_same 25 = .ok (.aload_n 0, 1) := by decide +kernel
theorem dX1_same_26 : decode cX1_same 26 = .ok (.getfield 20, 3) := by decide +kernel
theorem dX1_same_29 : decode cX1_same 29 = .ok (.iload_n 1, 1) := by decide +kernel
theorem dX1_same_30 : decode cX1_same 30 = .ok (.iaload, 1) := by decide +kernel
theorem dX1_same_31 : decode cX1_same 31 = .ok (.aload_n 0, 1) := by decide +kernel
theorem dX1_same_32 : decode cX1_same 32 = .ok (.getfield 20, 3) := by decide +kernel
theorem dX1_same_35 : decode cX1_same 35 = .ok (.iload_n 2, 1) := by decide +kernel
theorem dX1_same_36 : decode cX1_same 36 = .ok (.iaload, 1) := by decide +kernel
theorem dX1_same_37 : decode cX1_same 37 = .ok (.if_icmp .ne 7, 3) := by decide +kernel
theorem dX1_same_40 : decode cX1_same 40 = .ok (.iconst 1, 1) := by decide +kernel
theorem dX1_same_41 : decode cX1_same 41 = .ok (.goto 4, 3) := by decide +kernel
theorem dX1_same_44 : decode cX1_same 44 = .ok (.iconst 0, 1) := by decide +kernel
theorem dX1_same_45 : decode cX1_same 45 = .ok (.ireturn, 1) := by decide +kernel
theorem dX1_commit_0 : decode cX1_commit 0 = .ok (.aload_n 0, 1) := by decide +kernel
theorem dX1_commit_1 : decode cX1_commit 1 = .ok (.invokevirtual 64, 3) := by decide +kernel
theorem dX1_commit_4 : decode cX1_commit 4 = .ok (.istore_n 1, 1) := by decide +kernel
theorem dX1_commit_5 : decode cX1_commit 5 = .ok (.aload_n 0, 1) := by decide +kernel
theorem dX1_commit_6 : decode cX1_commit 6 = .ok (.invokevirtual 61, 3) := by decide +kernel
theorem dX1_commit_9 : decode cX1_commit 9 = .ok (.istore_n 2, 1) := by decide +kernel
theorem dX1_commit_10 : decode cX1_commit 10 = .ok (.aload_n 0, 1) := by decide +kernel
theorem dX1_commit_11 : decode cX1_commit 11 = .ok (.aload_n 0, 1) := by decide +kernel
theorem dX1_commit_12 : decode cX1_commit 12 = .ok (.getfield 16, 3) := by decide +kernel
theorem dX1_commit_15 : decode cX1_commit 15 = .ok (.putfield 29, 3) := by decide +kernel
theorem dX1_commit_18 : decode cX1_commit 18 = .ok (.iconst 0, 1) := by decide +kernel
theorem dX1_commit_19 : decode cX1_commit 19 = .ok (.istore_n 3, 1) := by decide +kernel
theorem dX1_commit_20 : decode cX1_commit 20 = .ok (.iload_n 3, 1) := by decide +kernel
theorem dX1_commit_21 : decode cX1_commit 21 = .ok (.bipush 12, 2) := by decide +kernel
theorem dX1_commit_23 : decode cX1_commit 23 = .ok (.if_icmp .ge 66, 3) := by decide +kernel
theorem dX1_commit_26 : decode cX1_commit 26 = .ok (.aload_n 0, 1) := by decide +kernel
theorem dX1_commit_27 : decode cX1_commit 27 = .ok (.iload_n 2, 1) := by decide +kernel
theorem dX1_commit_28 : decode cX1_commit 28 = .ok (.iload_n 3, 1) := by decide +kernel
theorem dX1_commit_29 : decode cX1_commit 29 = .ok (.invokevirtual 35, 3) := by decide +kernel
theorem dX1_commit_32 : decode cX1_commit 32 = .ok (.ifCond .eq 51, 3) := by decide +kernel
theorem dX1_commit_35 : decode cX1_commit 35 = .ok (.aload_n 0, 1) := by decide +kernel
theorem dX1_commit_36 : decode cX1_commit 36 = .ok (.getfield 23, 3) := by decide +kernel
theorem dX1_commit_39 : decode cX1_commit 39 = .ok (.iload_n 3, 1) := by decide +kernel
theorem dX1_commit_40 : decode cX1_commit 40 = .ok (.aload_n 0, 1) := by decide +kernel
theorem dX1_commit_41 : decode cX1_commit 41 = .ok (.getfield 7, 3) := by decide +kernel
theorem dX1_commit_44 : decode cX1_commit 44 = .ok (.iload_n 3, 1) := by decide +kernel
theorem dX1_commit_45 : decode cX1_commit 45 = .ok (.iaload, 1) := by decide +kernel
theorem dX1_commit_46 : decode cX1_commit 46 = .ok (.iastore, 1) := by decide +kernel
theorem dX1_commit_47 : decode cX1_commit 47 = .ok (.aload_n 0, 1) := by decide +kernel
theorem dX1_commit_48 : decode cX1_commit 48 = .ok (.getfield 26, 3) := by decide +kernel
theorem dX1_commit_51 : decode cX1_commit 51 = .ok (.iconst 2, 1) := by decide +kernel
theorem dX1_commit_52 : decode cX1_commit 52 = .ok (.iload_n 3, 1) := by decide +kernel
theorem dX1_commit_53 : decode cX1_commit 53 = .ok (.imul, 1) := by decide +kernel
theorem dX1_commit_54 : decode cX1_commit 54 = .ok (.aload_n 0, 1) := by decide +kernel
theorem dX1_commit_55 : decode cX1_commit 55 = .ok (.getfield 13, 3) := by decide +kernel
theorem dX1_commit_58 : decode cX1_commit 58 = .ok (.iconst 2, 1) := by decide +kernel
theorem dX1_commit_59 : decode cX1_commit 59 = .ok (.iload_n 3, 1) := by decide +kernel
theorem dX1_commit_60 : decode cX1_commit 60 = .ok (.imul, 1) := by decide +kernel
theorem dX1_commit_61 : decode cX1_commit 61 = .ok (.iaload, 1) := by decide +kernel
theorem dX1_commit_62 : decode cX1_commit 62 = .ok (.iastore, 1) := by decide +kernel
theorem dX1_commit_63 : decode cX1_commit 63 = .ok (.aload_n 0, 1) := by decide +kernel
theorem dX1_commit_64 : decode cX1_commit 64 = .ok (.getfield 26, 3) := by decide +kernel
theorem dX1_commit_67 : decode cX1_commit 67 = .ok (.iconst 2, 1) := by decide +kernel
theorem dX1_commit_68 : decode cX1_commit 68 = .ok (.iload_n 3, 1) := by decide +kernel
theorem dX1_commit_69 : decode cX1_commit 69 = .ok (.imul, 1) := by decide +kernel
theorem dX1_commit_70 : decode cX1_commit 70 = .ok (.iconst 1, 1) := by decide +kernel
theorem dX1_commit_71 : decode cX1_commit 71 = .ok (.iadd, 1) := by decide +kernel
theorem dX1_commit_72 : decode cX1_commit 72 = .ok (.aload_n 0, 1) := by decide +kernel
theorem dX1_commit_73 : decode cX1_commit 73 = .ok (.getfield 13, 3) := by decide +kernel
theorem dX1_commit_76 : decode cX1_commit 76 = .ok (.iconst 2, 1) := by decide +kernel
theorem dX1_commit_77 : decode cX1_commit 77 = .ok (.iload_n 3, 1) := by decide +kernel
theorem dX1_commit_78 : decode cX1_commit 78 = .ok (.imul, 1) := by decide +kernel
theorem dX1_commit_79 : decode cX1_commit 79 = .ok (.iconst 1, 1) := by decide +kernel
theorem dX1_commit_80 : decode cX1_commit 80 = .ok (.iadd, 1) := by decide +kernel
theorem dX1_commit_81 : decode cX1_commit 81 = .ok (.iaload, 1) := by decide +kernel
theorem dX1_commit_82 : decode cX1_commit 82 = .ok (.iastore, 1) := by decide +kernel
theorem dX1_commit_83 : decode cX1_commit 83 = .ok (.iinc 3 1, 3) := by decide +kernel
theorem dX1_commit_86 : decode cX1_commit 86 = .ok (.goto (-66), 3) := by decide +kernel
theorem dX1_commit_89 : decode cX1_commit 89 = .ok (.iload_n 1, 1) := by decide +kernel
theorem dX1_commit_90 : decode cX1_commit 90 = .ok (.ireturn, 1) := by decide +kernel
theorem dX1_changed_0 : decode cX1_changed 0 = .ok (.aload_n 0, 1) := by decide +kernel
theorem dX1_changed_1 : decode cX1_changed 1 = .ok (.invokevirtual 61, 3) := by decide +kernel
theorem dX1_changed_4 : decode cX1_changed 4 = .ok (.istore_n 1, 1) := by decide +kernel
theorem dX1_changed_5 : decode cX1_changed 5 = .ok (.aload_n 0, 1) := by decide +kernel
theorem dX1_changed_6 : decode cX1_changed 6 = .ok (.invokevirtual 47, 3) := by decide +kernel
theorem dX1_changed_9 : decode cX1_changed 9 = .ok (.istore_n 2, 1) := by decide +kernel
theorem dX1_changed_10 : decode cX1_changed 10 = .ok (.iconst 0, 1) := by decide +kernel
theorem dX1_changed_11 : decode cX1_changed 11 = .ok (.istore_n 3, 1) := by decide +kernel
theorem dX1_changed_12 : decode cX1_changed 12 = .ok (.iconst 0, 1) := by decide +kernel
theorem dX1_changed_13 : decode cX1_changed 13 = .ok (.istore 4, 2) := by decide +kernel
theorem dX1_changed_15 : decode cX1_changed 15 = .ok (.iload 4, 2) := by decide +kernel
theorem dX1_changed_17 : decode cX1_changed 17 = .ok (.bipush 12, 2) := by decide +kernel
theorem dX1_changed_19 : decode cX1_changed 19 = .ok (.if_icmp .ge 107, 3) := by decide +kernel
theorem dX1_changed_22 : decode cX1_changed 22 = .ok (.aload_n 0, 1) := by decide +kernel
theorem dX1_changed_23 : decode cX1_changed 23 = .ok (.getfield 7, 3) := by decide +kernel
theorem dX1_changed_26 : decode cX1_changed 26 = .ok (.iload 4, 2) := by decide +kernel
theorem dX1_changed_28 : decode cX1_changed 28 = .ok (.iaload, 1) := by decide +kernel
theorem dX1_changed_29 : decode cX1_changed 29 = .ok (.aload_n 0, 1) := by decide +kernel
theorem dX1_changed_30 : decode cX1_changed 30 = .ok (.getfield 23, 3) := by decide +kernel
theorem dX1_changed_33 : decode cX1_changed 33 = .ok (.iload 4, 2) := by decide +kernel
theorem dX1_changed_35 : decode cX1_changed 35 = .ok (.iaload, 1) := by decide +kernel
theorem dX1_changed_36 : decode cX1_changed 36 = .ok (.if_icmp .ne 53, 3) := by decide +kernel
theorem dX1_changed_39 : decode cX1_changed 39 = .ok (.aload_n 0, 1) := by decide +kernel
theorem dX1_changed_40 : decode cX1_changed 40 = .ok (.getfield 13, 3) := by decide +kernel
theorem dX1_changed_43 : decode cX1_changed 43 = .ok (.iconst 2, 1) := by decide +kernel
theorem dX1_changed_44 : decode cX1_changed 44 = .ok (.iload 4, 2) := by decide +kernel
theorem dX1_changed_46 : decode cX1_changed 46 = .ok (.imul, 1) := by decide +kernel
theorem dX1_changed_47 : decode cX1_changed 47 = .ok (.iaload, 1) := by decide +kernel
theorem dX1_changed_48 : decode cX1_changed 48 = .ok (.aload_n 0, 1) := by decide +kernel
theorem dX1_changed_49 : decode cX1_changed 49 = .ok (.getfield 26, 3) := by decide +kernel
theorem dX1_changed_52 : decode cX1_changed 52 = .ok (.iconst 2, 1) := by decide +kernel
theorem dX1_changed_53 : decode cX1_changed 53 = .ok (.iload 4, 2) := by decide +kernel
theorem dX1_changed_55 : decode cX1_changed 55 = .ok (.imul, 1) := by decide +kernel
theorem dX1_changed_56 : decode cX1_changed 56 = .ok (.iaload, 1) := by decide +kernel
theorem dX1_changed_57 : decode cX1_changed 57 = .ok (.if_icmp .ne 32, 3) := by decide +kernel
theorem dX1_changed_60 : decode cX1_changed 60 = .ok (.aload_n 0, 1) := by decide +kernel
theorem dX1_changed_61 : decode cX1_changed 61 = .ok (.getfield 13, 3) := by decide +kernel
theorem dX1_changed_64 : decode cX1_changed 64 = .ok (.iconst 2, 1) := by decide +kernel
theorem dX1_changed_65 : decode cX1_changed 65 = .ok (.iload 4, 2) := by decide +kernel
theorem dX1_changed_67 : decode cX1_changed 67 = .ok (.imul, 1) := by decide +kernel
theorem dX1_changed_68 : decode cX1_changed 68 = .ok (.iconst 1, 1) := by decide +kernel
theorem dX1_changed_69 : decode cX1_changed 69 = .ok (.iadd, 1) := by decide +kernel
theorem dX1_changed_70 : decode cX1_changed 70 = .ok (.iaload, 1) := by decide +kernel
theorem dX1_changed_71 : decode cX1_changed 71 = .ok (.aload_n 0, 1) := by decide +kernel
theorem dX1_changed_72 : decode cX1_changed 72 = .ok (.getfield 26, 3) := by decide +kernel
theorem dX1_changed_75 : decode cX1_changed 75 = .ok (.iconst 2, 1) := by decide +kernel
theorem dX1_changed_76 : decode cX1_changed 76 = .ok (.iload 4, 2) := by decide +kernel
theorem dX1_changed_78 : decode cX1_changed 78 = .ok (.imul, 1) := by decide +kernel
theorem dX1_changed_79 : decode cX1_changed 79 = .ok (.iconst 1, 1) := by decide +kernel
theorem dX1_changed_80 : decode cX1_changed 80 = .ok (.iadd, 1) := by decide +kernel
theorem dX1_changed_81 : decode cX1_changed 81 = .ok (.iaload, 1) := by decide +kernel
theorem dX1_changed_82 : decode cX1_changed 82 = .ok (.if_icmp .ne 7, 3) := by decide +kernel
theorem dX1_changed_85 : decode cX1_changed 85 = .ok (.iconst 1, 1) := by decide +kernel
theorem dX1_changed_86 : decode cX1_changed 86 = .ok (.goto 4, 3) := by decide +kernel
theorem dX1_changed_89 : decode cX1_changed 89 = .ok (.iconst 0, 1) := by decide +kernel
theorem dX1_changed_90 : decode cX1_changed 90 = .ok (.istore 5, 2) := by decide +kernel
theorem dX1_changed_92 : decode cX1_changed 92 = .ok (.aload_n 0, 1) := by decide +kernel
theorem dX1_changed_93 : decode cX1_changed 93 = .ok (.iload_n 1, 1) := by decide +kernel
theorem dX1_changed_94 : decode cX1_changed 94 = .ok (.iload 4, 2) := by decide +kernel
theorem dX1_changed_96 : decode cX1_changed 96 = .ok (.invokevirtual 35, 3) := by decide +kernel
theorem dX1_changed_99 : decode cX1_changed 99 = .ok (.ifCond .eq 21, 3) := by decide +kernel
theorem dX1_changed_102 : decode cX1_changed 102 = .ok (.aload_n 0, 1) := by decide +kernel
theorem dX1_changed_103 : decode cX1_changed 103 = .ok (.iload_n 2, 1) := by decide +kernel
theorem dX1_changed_104 : decode cX1_changed 104 = .ok (.iload 4, 2) := by decide +kernel
theorem dX1_changed_106 : decode cX1_changed 106 = .ok (.invokevirtual 35, 3) := by decide +kernel
theorem dX1_changed_109 : decode cX1_changed 109 = .ok (.ifCond .eq 8, 3) := by decide +kernel
theorem dX1_changed_112 : decode cX1_changed 112 = .ok (.iload 5, 2) := by decide +kernel
theorem dX1_changed_114 : decode cX1_changed 114 = .ok (.ifCond .ne 6, 3) := by decide +kernel
theorem dX1_changed_117 : decode cX1_changed 117 = .ok (.iinc 3 1, 3) := by decide +kernel
theorem dX1_changed_120 : decode cX1_changed 120 = .ok (.iinc 4 1, 3) := by decide +kernel
theorem dX1_changed_123 : decode cX1_changed 123 = .ok (.goto (-108), 3) := by decide +kernel
theorem dX1_changed_126 : decode cX1_changed 126 = .ok (.iload_n 3, 1) := by decide +kernel
theorem dX1_changed_127 : decode cX1_changed 127 = .ok (.ireturn, 1) := by decide +kernel
theorem dX1_reached_0 : decode cX1_reached 0 = .ok (.aload_n 0, 1) := by decide +kernel
theorem dX1_reached_1 : decode cX1_reached 1 = .ok (.aload_n 0, 1) := by decide +kernel
theorem dX1_reached_2 : decode cX1_reached 2 = .ok (.getfield 16, 3) := by decide +kernel
theorem dX1_reached_5 : decode cX1_reached 5 = .ok (.invokevirtual 39, 3) := by decide +kernel
theorem dX1_reached_8 : decode cX1_reached 8 = .ok (.istore_n 1, 1) := by decide +kernel
theorem dX1_reached_9 : decode cX1_reached 9 = .ok (.aload_n 0, 1) := by decide +kernel
theorem dX1_reached_10 : decode cX1_reached 10 = .ok (.iload_n 1, 1) := by decide +kernel
theorem dX1_reached_11 : decode cX1_reached 11 = .ok (.iconst 1, 1) := by decide +kernel
theorem dX1_reached_12 : decode cX1_reached 12 = .ok (.invokevirtual 43, 3) := by decide +kernel
theorem dX1_reached_15 : decode cX1_reached 15 = .ok (.ireturn, 1) := by decide +kernel
theorem dX1_abort_0 : decode cX1_abort 0 = .ok (.aload_n 0, 1) := by decide +kernel
theorem dX1_abort_1 : decode cX1_abort 1 = .ok (.invokevirtual 47, 3) := by decide +kernel
theorem dX1_abort_4 : decode cX1_abort 4 = .ok (.istore_n 1, 1) := by decide +kernel
theorem dX1_abort_5 : decode cX1_abort 5 = .ok (.aload_n 0, 1) := by decide +kernel
theorem dX1_abort_6 : decode cX1_abort 6 = .ok (.aload_n 0, 1) := by decide +kernel
theorem dX1_abort_7 : decode cX1_abort 7 = .ok (.getfield 29, 3) := by decide +kernel
theorem dX1_abort_10 : decode cX1_abort 10 = .ok (.putfield 16, 3) := by decide +kernel
theorem dX1_abort_13 : decode cX1_abort 13 = .ok (.aload_n 0, 1) := by decide +kernel
theorem dX1_abort_14 : decode cX1_abort 14 = .ok (.invokevirtual 32, 3) := by decide +kernel
theorem dX1_abort_17 : decode cX1_abort 17 = .ok (.iconst 0, 1) := by decide +kernel
theorem dX1_abort_18 : decode cX1_abort 18 = .ok (.istore_n 2, 1) := by decide +kernel
theorem dX1_abort_19 : decode cX1_abort 19 = .ok (.iload_n 2, 1) := by decide +kernel
theorem dX1_abort_20 : decode cX1_abort 20 = .ok (.bipush 12, 2) := by decide +kernel
theorem dX1_abort_22 : decode cX1_abort 22 = .ok (.if_icmp .ge 66, 3) := by decide +kernel
theorem dX1_abort_25 : decode cX1_abort 25 = .ok (.aload_n 0, 1) := by decide +kernel
theorem dX1_abort_26 : decode cX1_abort 26 = .ok (.iload_n 1, 1) := by decide +kernel
theorem dX1_abort_27 : decode cX1_abort 27 = .ok (.iload_n 2, 1) := by decide +kernel
theorem dX1_abort_28 : decode cX1_abort 28 = .ok (.invokevirtual 35, 3) := by decide +kernel
theorem dX1_abort_31 : decode cX1_abort 31 = .ok (.ifCond .eq 51, 3) := by decide +kernel
theorem dX1_abort_34 : decode cX1_abort 34 = .ok (.aload_n 0, 1) := by decide +kernel
theorem dX1_abort_35 : decode cX1_abort 35 = .ok (.getfield 7, 3) := by decide +kernel
theorem dX1_abort_38 : decode cX1_abort 38 = .ok (.iload_n 2, 1) := by decide +kernel
theorem dX1_abort_39 : decode cX1_abort 39 = .ok (.aload_n 0, 1) := by decide +kernel
theorem dX1_abort_40 : decode cX1_abort 40 = .ok (.getfield 23, 3) := by decide +kernel
theorem dX1_abort_43 : decode cX1_abort 43 = .ok (.iload_n 2, 1) := by decide +kernel
theorem dX1_abort_44 : decode cX1_abort 44 = .ok (.iaload, 1) := by decide +kernel
theorem dX1_abort_45 : decode cX1_abort 45 = .ok (.iastore, 1) := by decide +kernel
theorem dX1_abort_46 : decode cX1_abort 46 = .ok (.aload_n 0, 1) := by decide +kernel
theorem dX1_abort_47 : decode cX1_abort 47 = .ok (.getfield 13, 3) := by decide +kernel
theorem dX1_abort_50 : decode cX1_abort 50 = .ok (.iconst 2, 1) := by decide +kernel
theorem dX1_abort_51 : decode cX1_abort 51 = .ok (.iload_n 2, 1) := by decide +kernel
theorem dX1_abort_52 : decode cX1_abort 52 = .ok (.imul, 1) := by decide +kernel
theorem dX1_abort_53 : decode cX1_abort 53 = .ok (.aload_n 0, 1) := by decide +kernel
theorem dX1_abort_54 : decode cX1_abort 54 = .ok (.getfield 26, 3) := by decide +kernel
theorem dX1_abort_57 : decode cX1_abort 57 = .ok (.iconst 2, 1) := by decide +kernel
theorem dX1_abort_58 : decode cX1_abort 58 = .ok (.iload_n 2, 1) := by decide +kernel
theorem dX1_abort_59 : decode cX1_abort 59 = .ok (.imul, 1) := by decide +kernel
theorem dX1_abort_60 : decode cX1_abort 60 = .ok (.iaload, 1) := by decide +kernel
theorem dX1_abort_61 : decode cX1_abort 61 = .ok (.iastore, 1) := by decide +kernel
theorem dX1_abort_62 : decode cX1_abort 62 = .ok (.aload_n 0, 1) := by decide +kernel
theorem dX1_abort_63 : decode cX1_abort 63 = .ok (.getfield 13, 3) := by decide +kernel
theorem dX1_abort_66 : decode cX1_abort 66 = .ok (.iconst 2, 1) := by decide +kernel
theorem dX1_abort_67 : decode cX1_abort 67 = .ok (.iload_n 2, 1) := by decide +kernel
theorem dX1_abort_68 : decode cX1_abort 68 = .ok (.imul, 1) := by decide +kernel
theorem dX1_abort_69 : decode cX1_abort 69 = .ok (.iconst 1, 1) := by decide +kernel
theorem dX1_abort_70 : decode cX1_abort 70 = .ok (.iadd, 1) := by decide +kernel
theorem dX1_abort_71 : decode cX1_abort 71 = .ok (.aload_n 0, 1) := by decide +kernel
theorem dX1_abort_72 : decode cX1_abort 72 = .ok (.getfield 26, 3) := by decide +kernel
theorem dX1_abort_75 : decode cX1_abort 75 = .ok (.iconst 2, 1) := by decide +kernel
theorem dX1_abort_76 : decode cX1_abort 76 = .ok (.iload_n 2, 1) := by decide +kernel
theorem dX1_abort_77 : decode cX1_abort 77 = .ok (.imul, 1) := by decide +kernel
theorem dX1_abort_78 : decode cX1_abort 78 = .ok (.iconst 1, 1) := by decide +kernel
theorem dX1_abort_79 : decode cX1_abort 79 = .ok (.iadd, 1) := by decide +kernel
theorem dX1_abort_80 : decode cX1_abort 80 = .ok (.iaload, 1) := by decide +kernel
theorem dX1_abort_81 : decode cX1_abort 81 = .ok (.iastore, 1) := by decide +kernel
theorem dX1_abort_82 : decode cX1_abort 82 = .ok (.iinc 2 1, 3) := by decide +kernel
theorem dX1_abort_85 : decode cX1_abort 85 = .ok (.goto (-66), 3) := by decide +kernel
theorem dX1_abort_88 : decode cX1_abort 88 = .ok (.aload_n 0, 1) := by decide +kernel
theorem dX1_abort_89 : decode cX1_abort 89 = .ok (.iload_n 1, 1) := by decide +kernel
theorem dX1_abort_90 : decode cX1_abort 90 = .ok (.invokevirtual 67, 3) := by decide +kernel
theorem dX1_abort_93 : decode cX1_abort 93 = .ok (.ireturn, 1) := by decide +kernel
theorem dX1_sizeOf_0 : decode cX1_sizeOf 0 = .ok (.iconst 0, 1) := by decide +kernel
theorem dX1_sizeOf_1 : decode cX1_sizeOf 1 = .ok (.istore_n 2, 1) := by decide +kernel
theorem dX1_sizeOf_2 : decode cX1_sizeOf 2 = .ok (.iconst 0, 1) := by decide +kernel
theorem dX1_sizeOf_3 : decode cX1_sizeOf 3 = .ok (.istore_n 3, 1) := by decide +kernel
theorem dX1_sizeOf_4 : decode cX1_sizeOf 4 = .ok (.iload_n 3, 1) := by decide +kernel
theorem dX1_sizeOf_5 : decode cX1_sizeOf 5 = .ok (.bipush 12, 2) := by decide +kernel
theorem dX1_sizeOf_7 : decode cX1_sizeOf 7 = .ok (.if_icmp .ge 21, 3) := by decide +kernel
theorem dX1_sizeOf_10 : decode cX1_sizeOf 10 = .ok (.aload_n 0, 1) := by decide +kernel
theorem dX1_sizeOf_11 : decode cX1_sizeOf 11 = .ok (.iload_n 1, 1) := by decide +kernel
theorem dX1_sizeOf_12 : decode cX1_sizeOf 12 = .ok (.iload_n 3, 1) := by decide +kernel
theorem dX1_sizeOf_13 : decode cX1_sizeOf 13 = .ok (.invokevirtual 35, 3) := by decide +kernel
theorem dX1_sizeOf_16 : decode cX1_sizeOf 16 = .ok (.ifCond .eq 6, 3) := by decide +kernel
theorem dX1_sizeOf_19 : decode cX1_sizeOf 19 = .ok (.iinc 2 1, 3) := by decide +kernel
theorem dX1_sizeOf_22 : decode cX1_sizeOf 22 = .ok (.iinc 3 1, 3) := by decide +kernel
theorem dX1_sizeOf_25 : decode cX1_sizeOf 25 = .ok (.goto (-21), 3) := by decide +kernel
theorem dX1_sizeOf_28 : decode cX1_sizeOf 28 = .ok (.iload_n 2, 1) := by decide +kernel
theorem dX1_sizeOf_29 : decode cX1_sizeOf 29 = .ok (.ireturn, 1) := by decide +kernel
theorem dX1_crash_0 : decode cX1_crash 0 = .ok (.iload_n 1, 1) := by decide +kernel
theorem dX1_crash_1 : decode cX1_crash 1 = .ok (.aload_n 0, 1) := by decide +kernel
theorem dX1_crash_2 : decode cX1_crash 2 = .ok (.invokevirtual 64, 3) := by decide +kernel
theorem dX1_crash_5 : decode cX1_crash 5 = .ok (.if_icmp .le 7, 3) := by decide +kernel
theorem dX1_crash_8 : decode cX1_crash 8 = .ok (.iconst 1, 1) := by decide +kernel
theorem dX1_crash_9 : decode cX1_crash 9 = .ok (.goto 4, 3) := by decide +kernel
theorem dX1_crash_12 : decode cX1_crash 12 = .ok (.iconst 0, 1) := by decide +kernel
theorem dX1_crash_13 : decode cX1_crash 13 = .ok (.istore_n 2, 1) := by decide +kernel
theorem dX1_crash_14 : decode cX1_crash 14 = .ok (.iload_n 2, 1) := by decide +kernel
theorem dX1_crash_15 : decode cX1_crash 15 = .ok (.ifCond .eq 8, 3) := by decide +kernel
theorem dX1_crash_18 : decode cX1_crash 18 = .ok (.aload_n 0, 1) := by decide +kernel
theorem dX1_crash_19 : decode cX1_crash 19 = .ok (.invokevirtual 70, 3) := by decide +kernel
theorem dX1_crash_22 : decode cX1_crash 22 = .ok (.pop, 1) := by decide +kernel
theorem dX1_crash_23 : decode cX1_crash 23 = .ok (.aload_n 0, 1) := by decide +kernel
theorem dX1_crash_24 : decode cX1_crash 24 = .ok (.invokevirtual 73, 3) := by decide +kernel
theorem dX1_crash_27 : decode cX1_crash 27 = .ok (.pop, 1) := by decide +kernel
theorem dX1_crash_28 : decode cX1_crash 28 = .ok (.iload_n 2, 1) := by decide +kernel
theorem dX1_crash_29 : decode cX1_crash 29 = .ok (.ifCond .eq 7, 3) := by decide +kernel
theorem dX1_crash_32 : decode cX1_crash 32 = .ok (.iconst 1, 1) := by decide +kernel
theorem dX1_crash_33 : decode cX1_crash 33 = .ok (.goto 4, 3) := by decide +kernel
theorem dX1_crash_36 : decode cX1_crash 36 = .ok (.iconst 0, 1) := by decide +kernel
theorem dX1_crash_37 : decode cX1_crash 37 = .ok (.ireturn, 1) := by decide +kernel
theorem dX1_reachable_0 : decode cX1_reachable 0 = .ok (.aload_n 0, 1) := by decide +kernel
theorem dX1_reachable_1 : decode cX1_reachable 1 = .ok (.invokevirtual 61, 3) := by decide +kernel
theorem dX1_reachable_4 : decode cX1_reachable 4 = .ok (.istore_n 1, 1) := by decide +kernel
theorem dX1_reachable_5 : decode cX1_reachable 5 = .ok (.aload_n 0, 1) := by decide +kernel
theorem dX1_reachable_6 : decode cX1_reachable 6 = .ok (.iload_n 1, 1) := by decide +kernel
theorem dX1_reachable_7 : decode cX1_reachable 7 = .ok (.invokevirtual 67, 3) := by decide +kernel
theorem dX1_reachable_10 : decode cX1_reachable 10 = .ok (.ireturn, 1) := by decide +kernel
theorem dJ0_init_0 : decode cJ0_init 0 = .ok (.return_, 1) := by decide +kernel
end
section
set_option maxRecDepth 100000
theorem dL_law_0 : decode cL_law 0 = .ok (.new 7, 3) := by decide +kernel
theorem dL_law_3 : decode cL_law 3 = .ok (.dup, 1) := by decide +kernel
theorem dL_law_4 : decode cL_law 4 = .ok (.invokespecial 9, 3) := by decide +kernel
theorem dL_law_7 : decode cL_law 7 = .ok (.astore_n 1, 1) := by decide +kernel
theorem dL_law_8 : decode cL_law 8 = .ok (.new 10, 3) := by decide +kernel
theorem dL_law_11 : decode cL_law 11 = .ok (.dup, 1) := by decide +kernel
theorem dL_law_12 : decode cL_law 12 = .ok (.invokespecial 12, 3) := by decide +kernel
theorem dL_law_15 : decode cL_law 15 = .ok (.astore_n 2, 1) := by decide +kernel
theorem dL_law_16 : decode cL_law 16 = .ok (.iconst 0, 1) := by decide +kernel
theorem dL_law_17 : decode cL_law 17 = .ok (.istore_n 3, 1) := by decide +kernel
theorem dL_law_18 : decode cL_law 18 = .ok (.iload_n 3, 1) := by decide +kernel
theorem dL_law_19 : decode cL_law 19 = .ok (.aload_n 0, 1) := by decide +kernel
theorem dL_law_20 : decode cL_law 20 = .ok (.arraylength, 1) := by decide +kernel
theorem dL_law_21 : decode cL_law 21 = .ok (.iconst 4, 1) := by decide +kernel
theorem dL_law_22 : decode cL_law 22 = .ok (.isub, 1) := by decide +kernel
theorem dL_law_23 : decode cL_law 23 = .ok (.if_icmp .gt 422, 3) := by decide +kernel
theorem dL_law_26 : decode cL_law 26 = .ok (.aload_n 0, 1) := by decide +kernel
theorem dL_law_27 : decode cL_law 27 = .ok (.iload_n 3, 1) := by decide +kernel
theorem dL_law_28 : decode cL_law 28 = .ok (.iaload, 1) := by decide +kernel
theorem dL_law_29 : decode cL_law 29 = .ok (.bipush 15, 2) := by decide +kernel
theorem dL_law_31 : decode cL_law 31 = .ok (.iand, 1) := by decide +kernel
theorem dL_law_32 : decode cL_law 32 = .ok (.tableswitch 407 0 12 #[68, 101, 124, 147, 190, 233, 256, 279, 312, 345, 358, 371, 394], 68) := by decide +kernel
theorem dL_law_100 : decode cL_law 100 = .ok (.aload_n 1, 1) := by decide +kernel
theorem dL_law_101 : decode cL_law 101 = .ok (.aload_n 0, 1) := by decide +kernel
theorem dL_law_102 : decode cL_law 102 = .ok (.iload_n 3, 1) := by decide +kernel
theorem dL_law_103 : decode cL_law 103 = .ok (.iconst 1, 1) := by decide +kernel
theorem dL_law_104 : decode cL_law 104 = .ok (.iadd, 1) := by decide +kernel
theorem dL_law_105 : decode cL_law 105 = .ok (.iaload, 1) := by decide +kernel
theorem dL_law_106 : decode cL_law 106 = .ok (.aload_n 0, 1) := by decide +kernel
theorem dL_law_107 : decode cL_law 107 = .ok (.iload_n 3, 1) := by decide +kernel
theorem dL_law_108 : decode cL_law 108 = .ok (.iconst 2, 1) := by decide +kernel
theorem dL_law_109 : decode cL_law 109 = .ok (.iadd, 1) := by decide +kernel
theorem dL_law_110 : decode cL_law 110 = .ok (.iaload, 1) := by decide +kernel
theorem dL_law_111 : decode cL_law 111 = .ok (.invokevirtual 13, 3) := by decide +kernel
theorem dL_law_114 : decode cL_law 114 = .ok (.aload_n 2, 1) := by decide +kernel
theorem dL_law_115 : decode cL_law 115 = .ok (.aload_n 0, 1) := by decide +kernel
theorem dL_law_116 : decode cL_law 116 = .ok (.iload_n 3, 1) := by decide +kernel
theorem dL_law_117 : decode cL_law 117 = .ok (.iconst 1, 1) := by decide +kernel
theorem dL_law_118 : decode cL_law 118 = .ok (.iadd, 1) := by decide +kernel
theorem dL_law_119 : decode cL_law 119 = .ok (.iaload, 1) := by decide +kernel
theorem dL_law_120 : decode cL_law 120 = .ok (.aload_n 0, 1) := by decide +kernel
theorem dL_law_121 : decode cL_law 121 = .ok (.iload_n 3, 1) := by decide +kernel
theorem dL_law_122 : decode cL_law 122 = .ok (.iconst 2, 1) := by decide +kernel
theorem dL_law_123 : decode cL_law 123 = .ok (.iadd, 1) := by decide +kernel
theorem dL_law_124 : decode cL_law 124 = .ok (.iaload, 1) := by decide +kernel
theorem dL_law_125 : decode cL_law 125 = .ok (.invokevirtual 17, 3) := by decide +kernel
theorem dL_law_128 : decode cL_law 128 = .ok (.if_icmp .eq 311, 3) := by decide +kernel
theorem dL_law_131 : decode cL_law 131 = .ok (.iconst 0, 1) := by decide +kernel
theorem dL_law_132 : decode cL_law 132 = .ok (.ireturn, 1) := by decide +kernel
theorem dL_law_133 : decode cL_law 133 = .ok (.aload_n 1, 1) := by decide +kernel
theorem dL_law_134 : decode cL_law 134 = .ok (.aload_n 0, 1) := by decide +kernel
theorem dL_law_135 : decode cL_law 135 = .ok (.iload_n 3, 1) := by decide +kernel
theorem dL_law_136 : decode cL_law 136 = .ok (.iconst 1, 1) := by decide +kernel
theorem dL_law_137 : decode cL_law 137 = .ok (.iadd, 1) := by decide +kernel
theorem dL_law_138 : decode cL_law 138 = .ok (.iaload, 1) := by decide +kernel
theorem dL_law_139 : decode cL_law 139 = .ok (.invokevirtual 18, 3) := by decide +kernel
theorem dL_law_142 : decode cL_law 142 = .ok (.aload_n 2, 1) := by decide +kernel
theorem dL_law_143 : decode cL_law 143 = .ok (.aload_n 0, 1) := by decide +kernel
theorem dL_law_144 : decode cL_law 144 = .ok (.iload_n 3, 1) := by decide +kernel
theorem dL_law_145 : decode cL_law 145 = .ok (.iconst 1, 1) := by decide +kernel
theorem dL_law_146 : decode cL_law 146 = .ok (.iadd, 1) := by decide +kernel
theorem dL_law_147 : decode cL_law 147 = .ok (.iaload, 1) := by decide +kernel
theorem dL_law_148 : decode cL_law 148 = .ok (.invokevirtual 22, 3) := by decide +kernel
theorem dL_law_151 : decode cL_law 151 = .ok (.if_icmp .eq 288, 3) := by decide +kernel
theorem dL_law_154 : decode cL_law 154 = .ok (.iconst 0, 1) := by decide +kernel
theorem dL_law_155 : decode cL_law 155 = .ok (.ireturn, 1) := by decide +kernel
theorem dL_law_156 : decode cL_law 156 = .ok (.aload_n 1, 1) := by decide +kernel
theorem dL_law_157 : decode cL_law 157 = .ok (.aload_n 0, 1) := by decide +kernel
theorem dL_law_158 : decode cL_law 158 = .ok (.iload_n 3, 1) := by decide +kernel
theorem dL_law_159 : decode cL_law 159 = .ok (.iconst 1, 1) := by decide +kernel
theorem dL_law_160 : decode cL_law 160 = .ok (.iadd, 1) := by decide +kernel
theorem dL_law_161 : decode cL_law 161 = .ok (.iaload, 1) := by decide +kernel
theorem dL_law_162 : decode cL_law 162 = .ok (.invokevirtual 23, 3) := by decide +kernel
theorem dL_law_165 : decode cL_law 165 = .ok (.aload_n 2, 1) := by decide +kernel
theorem dL_law_166 : decode cL_law 166 = .ok (.aload_n 0, 1) := by decide +kernel
theorem dL_law_167 : decode cL_law 167 = .ok (.iload_n 3, 1) := by decide +kernel
theorem dL_law_168 : decode cL_law 168 = .ok (.iconst 1, 1) := by decide +kernel
theorem dL_law_169 : decode cL_law 169 = .ok (.iadd, 1) := by decide +kernel
theorem dL_law_170 : decode cL_law 170 = .ok (.iaload, 1) := by decide +kernel
theorem dL_law_171 : decode cL_law 171 = .ok (.invokevirtual 26, 3) := by decide +kernel
theorem dL_law_174 : decode cL_law 174 = .ok (.if_icmp .eq 265, 3) := by decide +kernel
theorem dL_law_177 : decode cL_law 177 = .ok (.iconst 0, 1) := by decide +kernel
theorem dL_law_178 : decode cL_law 178 = .ok (.ireturn, 1) := by decide +kernel
theorem dL_law_179 : decode cL_law 179 = .ok (.aload_n 1, 1) := by decide +kernel
theorem dL_law_180 : decode cL_law 180 = .ok (.aload_n 0, 1) := by decide +kernel
theorem dL_law_181 : decode cL_law 181 = .ok (.iload_n 3, 1) := by decide +kernel
theorem dL_law_182 : decode cL_law 182 = .ok (.iconst 1, 1) := by decide +kernel
theorem dL_law_183 : decode cL_law 183 = .ok (.iadd, 1) := by decide +kernel
theorem dL_law_184 : decode cL_law 184 = .ok (.iaload, 1) := by decide +kernel
theorem dL_law_185 : decode cL_law 185 = .ok (.aload_n 0, 1) := by decide +kernel
theorem dL_law_186 : decode cL_law 186 = .ok (.iload_n 3, 1) := by decide +kernel
theorem dL_law_187 : decode cL_law 187 = .ok (.iconst 2, 1) := by decide +kernel
theorem dL_law_188 : decode cL_law 188 = .ok (.iadd, 1) := by decide +kernel
theorem dL_law_189 : decode cL_law 189 = .ok (.iaload, 1) := by decide +kernel
theorem dL_law_190 : decode cL_law 190 = .ok (.aload_n 0, 1) := by decide +kernel
theorem dL_law_191 : decode cL_law 191 = .ok (.iload_n 3, 1) := by decide +kernel
theorem dL_law_192 : decode cL_law 192 = .ok (.iconst 3, 1) := by decide +kernel
theorem dL_law_193 : decode cL_law 193 = .ok (.iadd, 1) := by decide +kernel
theorem dL_law_194 : decode cL_law 194 = .ok (.iaload, 1) := by decide +kernel
theorem dL_law_195 : decode cL_law 195 = .ok (.invokevirtual 27, 3) := by decide +kernel
theorem dL_law_198 : decode cL_law 198 = .ok (.aload_n 2, 1) := by decide +kernel
theorem dL_law_199 : decode cL_law 199 = .ok (.aload_n 0, 1) := by decide +kernel
theorem dL_law_200 : decode cL_law 200 = .ok (.iload_n 3, 1) := by decide +kernel
theorem dL_law_201 : decode cL_law 201 = .ok (.iconst 1, 1) := by decide +kernel
theorem dL_law_202 : decode cL_law 202 = .ok (.iadd, 1) := by decide +kernel
theorem dL_law_203 : decode cL_law 203 = .ok (.iaload, 1) := by decide +kernel
theorem dL_law_204 : decode cL_law 204 = .ok (.aload_n 0, 1) := by decide +kernel
theorem dL_law_205 : decode cL_law 205 = .ok (.iload_n 3, 1) := by decide +kernel
theorem dL_law_206 : decode cL_law 206 = .ok (.iconst 2, 1) := by decide +kernel
theorem dL_law_207 : decode cL_law 207 = .ok (.iadd, 1) := by decide +kernel
theorem dL_law_208 : decode cL_law 208 = .ok (.iaload, 1) := by decide +kernel
theorem dL_law_209 : decode cL_law 209 = .ok (.aload_n 0, 1) := by decide +kernel
theorem dL_law_210 : decode cL_law 210 = .ok (.iload_n 3, 1) := by decide +kernel
theorem dL_law_211 : decode cL_law 211 = .ok (.iconst 3, 1) := by decide +kernel
theorem dL_law_212 : decode cL_law 212 = .ok (.iadd, 1) := by decide +kernel
theorem dL_law_213 : decode cL_law 213 = .ok (.iaload, 1) := by decide +kernel
theorem dL_law_214 : decode cL_law 214 = .ok (.invokevirtual 31, 3) := by decide +kernel
theorem dL_law_217 : decode cL_law 217 = .ok (.if_icmp .eq 222, 3) := by decide +kernel
theorem dL_law_220 : decode cL_law 220 = .ok (.iconst 0, 1) := by decide +kernel
theorem dL_law_221 : decode cL_law 221 = .ok (.ireturn, 1) := by decide +kernel
theorem dL_law_222 : decode cL_law 222 = .ok (.aload_n 1, 1) := by decide +kernel
theorem dL_law_223 : decode cL_law 223 = .ok (.aload_n 0, 1) := by decide +kernel
theorem dL_law_224 : decode cL_law 224 = .ok (.iload_n 3, 1) := by decide +kernel
theorem dL_law_225 : decode cL_law 225 = .ok (.iconst 1, 1) := by decide +kernel
theorem dL_law_226 : decode cL_law 226 = .ok (.iadd, 1) := by decide +kernel
theorem dL_law_227 : decode cL_law 227 = .ok (.iaload, 1) := by decide +kernel
theorem dL_law_228 : decode cL_law 228 = .ok (.aload_n 0, 1) := by decide +kernel
theorem dL_law_229 : decode cL_law 229 = .ok (.iload_n 3, 1) := by decide +kernel
theorem dL_law_230 : decode cL_law 230 = .ok (.iconst 2, 1) := by decide +kernel
theorem dL_law_231 : decode cL_law 231 = .ok (.iadd, 1) := by decide +kernel
theorem dL_law_232 : decode cL_law 232 = .ok (.iaload, 1) := by decide +kernel
theorem dL_law_233 : decode cL_law 233 = .ok (.aload_n 0, 1) := by decide +kernel
theorem dL_law_234 : decode cL_law 234 = .ok (.iload_n 3, 1) := by decide +kernel
theorem dL_law_235 : decode cL_law 235 = .ok (.iconst 3, 1) := by decide +kernel
theorem dL_law_236 : decode cL_law 236 = .ok (.iadd, 1) := by decide +kernel
theorem dL_law_237 : decode cL_law 237 = .ok (.iaload, 1) := by decide +kernel
theorem dL_law_238 : decode cL_law 238 = .ok (.invokevirtual 32, 3) := by decide +kernel
theorem dL_law_241 : decode cL_law 241 = .ok (.aload_n 2, 1) := by decide +kernel
theorem dL_law_242 : decode cL_law 242 = .ok (.aload_n 0, 1) := by decide +kernel
theorem dL_law_243 : decode cL_law 243 = .ok (.iload_n 3, 1) := by decide +kernel
theorem dL_law_244 : decode cL_law 244 = .ok (.iconst 1, 1) := by decide +kernel
theorem dL_law_245 : decode cL_law 245 = .ok (.iadd, 1) := by decide +kernel
theorem dL_law_246 : decode cL_law 246 = .ok (.iaload, 1) := by decide +kernel
theorem dL_law_247 : decode cL_law 247 = .ok (.aload_n 0, 1) := by decide +kernel
theorem dL_law_248 : decode cL_law 248 = .ok (.iload_n 3, 1) := by decide +kernel
theorem dL_law_249 : decode cL_law 249 = .ok (.iconst 2, 1) := by decide +kernel
theorem dL_law_250 : decode cL_law 250 = .ok (.iadd, 1) := by decide +kernel
theorem dL_law_251 : decode cL_law 251 = .ok (.iaload, 1) := by decide +kernel
theorem dL_law_252 : decode cL_law 252 = .ok (.aload_n 0, 1) := by decide +kernel
theorem dL_law_253 : decode cL_law 253 = .ok (.iload_n 3, 1) := by decide +kernel
theorem dL_law_254 : decode cL_law 254 = .ok (.iconst 3, 1) := by decide +kernel
theorem dL_law_255 : decode cL_law 255 = .ok (.iadd, 1) := by decide +kernel
theorem dL_law_256 : decode cL_law 256 = .ok (.iaload, 1) := by decide +kernel
theorem dL_law_257 : decode cL_law 257 = .ok (.invokevirtual 35, 3) := by decide +kernel
theorem dL_law_260 : decode cL_law 260 = .ok (.if_icmp .eq 179, 3) := by decide +kernel
theorem dL_law_263 : decode cL_law 263 = .ok (.iconst 0, 1) := by decide +kernel
theorem dL_law_264 : decode cL_law 264 = .ok (.ireturn, 1) := by decide +kernel
theorem dL_law_265 : decode cL_law 265 = .ok (.aload_n 1, 1) := by decide +kernel
theorem dL_law_266 : decode cL_law 266 = .ok (.aload_n 0, 1) := by decide +kernel
theorem dL_law_267 : decode cL_law 267 = .ok (.iload_n 3, 1) := by decide +kernel
theorem dL_law_268 : decode cL_law 268 = .ok (.iconst 1, 1) := by decide +kernel
theorem dL_law_269 : decode cL_law 269 = .ok (.iadd, 1) := by decide +kernel
theorem dL_law_270 : decode cL_law 270 = .ok (.iaload, 1) := by decide +kernel
theorem dL_law_271 : decode cL_law 271 = .ok (.invokevirtual 36, 3) := by decide +kernel
theorem dL_law_274 : decode cL_law 274 = .ok (.aload_n 2, 1) := by decide +kernel
theorem dL_law_275 : decode cL_law 275 = .ok (.aload_n 0, 1) := by decide +kernel
theorem dL_law_276 : decode cL_law 276 = .ok (.iload_n 3, 1) := by decide +kernel
theorem dL_law_277 : decode cL_law 277 = .ok (.iconst 1, 1) := by decide +kernel
theorem dL_law_278 : decode cL_law 278 = .ok (.iadd, 1) := by decide +kernel
theorem dL_law_279 : decode cL_law 279 = .ok (.iaload, 1) := by decide +kernel
theorem dL_law_280 : decode cL_law 280 = .ok (.invokevirtual 39, 3) := by decide +kernel
theorem dL_law_283 : decode cL_law 283 = .ok (.if_icmp .eq 156, 3) := by decide +kernel
theorem dL_law_286 : decode cL_law 286 = .ok (.iconst 0, 1) := by decide +kernel
theorem dL_law_287 : decode cL_law 287 = .ok (.ireturn, 1) := by decide +kernel
theorem dL_law_288 : decode cL_law 288 = .ok (.aload_n 1, 1) := by decide +kernel
theorem dL_law_289 : decode cL_law 289 = .ok (.aload_n 0, 1) := by decide +kernel
theorem dL_law_290 : decode cL_law 290 = .ok (.iload_n 3, 1) := by decide +kernel
theorem dL_law_291 : decode cL_law 291 = .ok (.iconst 1, 1) := by decide +kernel
theorem dL_law_292 : decode cL_law 292 = .ok (.iadd, 1) := by decide +kernel
theorem dL_law_293 : decode cL_law 293 = .ok (.iaload, 1) := by decide +kernel
theorem dL_law_294 : decode cL_law 294 = .ok (.invokevirtual 40, 3) := by decide +kernel
theorem dL_law_297 : decode cL_law 297 = .ok (.aload_n 2, 1) := by decide +kernel
theorem dL_law_298 : decode cL_law 298 = .ok (.aload_n 0, 1) := by decide +kernel
theorem dL_law_299 : decode cL_law 299 = .ok (.iload_n 3, 1) := by decide +kernel
theorem dL_law_300 : decode cL_law 300 = .ok (.iconst 1, 1) := by decide +kernel
theorem dL_law_301 : decode cL_law 301 = .ok (.iadd, 1) := by decide +kernel
theorem dL_law_302 : decode cL_law 302 = .ok (.iaload, 1) := by decide +kernel
theorem dL_law_303 : decode cL_law 303 = .ok (.invokevirtual 43, 3) := by decide +kernel
theorem dL_law_306 : decode cL_law 306 = .ok (.if_icmp .eq 133, 3) := by decide +kernel
theorem dL_law_309 : decode cL_law 309 = .ok (.iconst 0, 1) := by decide +kernel
theorem dL_law_310 : decode cL_law 310 = .ok (.ireturn, 1) := by decide +kernel
theorem dL_law_311 : decode cL_law 311 = .ok (.aload_n 1, 1) := by decide +kernel
theorem dL_law_312 : decode cL_law 312 = .ok (.aload_n 0, 1) := by decide +kernel
theorem dL_law_313 : decode cL_law 313 = .ok (.iload_n 3, 1) := by decide +kernel
theorem dL_law_314 : decode cL_law 314 = .ok (.iconst 1, 1) := by decide +kernel
theorem dL_law_315 : decode cL_law 315 = .ok (.iadd, 1) := by decide +kernel
theorem dL_law_316 : decode cL_law 316 = .ok (.iaload, 1) := by decide +kernel
theorem dL_law_317 : decode cL_law 317 = .ok (.aload_n 0, 1) := by decide +kernel
theorem dL_law_318 : decode cL_law 318 = .ok (.iload_n 3, 1) := by decide +kernel
theorem dL_law_319 : decode cL_law 319 = .ok (.iconst 2, 1) := by decide +kernel
theorem dL_law_320 : decode cL_law 320 = .ok (.iadd, 1) := by decide +kernel
theorem dL_law_321 : decode cL_law 321 = .ok (.iaload, 1) := by decide +kernel
theorem dL_law_322 : decode cL_law 322 = .ok (.invokevirtual 44, 3) := by decide +kernel
theorem dL_law_325 : decode cL_law 325 = .ok (.aload_n 2, 1) := by decide +kernel
theorem dL_law_326 : decode cL_law 326 = .ok (.aload_n 0, 1) := by decide +kernel
theorem dL_law_327 : decode cL_law 327 = .ok (.iload_n 3, 1) := by decide +kernel
theorem dL_law_328 : decode cL_law 328 = .ok (.iconst 1, 1) := by decide +kernel
theorem dL_law_329 : decode cL_law 329 = .ok (.iadd, 1) := by decide +kernel
theorem dL_law_330 : decode cL_law 330 = .ok (.iaload, 1) := by decide +kernel
theorem dL_law_331 : decode cL_law 331 = .ok (.aload_n 0, 1) := by decide +kernel
theorem dL_law_332 : decode cL_law 332 = .ok (.iload_n 3, 1) := by decide +kernel
theorem dL_law_333 : decode cL_law 333 = .ok (.iconst 2, 1) := by decide +kernel
theorem dL_law_334 : decode cL_law 334 = .ok (.iadd, 1) := by decide +kernel
theorem dL_law_335 : decode cL_law 335 = .ok (.iaload, 1) := by decide +kernel
theorem dL_law_336 : decode cL_law 336 = .ok (.invokevirtual 47, 3) := by decide +kernel
theorem dL_law_339 : decode cL_law 339 = .ok (.if_icmp .eq 100, 3) := by decide +kernel
theorem dL_law_342 : decode cL_law 342 = .ok (.iconst 0, 1) := by decide +kernel
theorem dL_law_343 : decode cL_law 343 = .ok (.ireturn, 1) := by decide +kernel
theorem dL_law_344 : decode cL_law 344 = .ok (.aload_n 1, 1) := by decide +kernel
theorem dL_law_345 : decode cL_law 345 = .ok (.aload_n 0, 1) := by decide +kernel
theorem dL_law_346 : decode cL_law 346 = .ok (.iload_n 3, 1) := by decide +kernel
theorem dL_law_347 : decode cL_law 347 = .ok (.iconst 1, 1) := by decide +kernel
theorem dL_law_348 : decode cL_law 348 = .ok (.iadd, 1) := by decide +kernel
theorem dL_law_349 : decode cL_law 349 = .ok (.iaload, 1) := by decide +kernel
theorem dL_law_350 : decode cL_law 350 = .ok (.aload_n 0, 1) := by decide +kernel
theorem dL_law_351 : decode cL_law 351 = .ok (.iload_n 3, 1) := by decide +kernel
theorem dL_law_352 : decode cL_law 352 = .ok (.iconst 2, 1) := by decide +kernel
theorem dL_law_353 : decode cL_law 353 = .ok (.iadd, 1) := by decide +kernel
theorem dL_law_354 : decode cL_law 354 = .ok (.iaload, 1) := by decide +kernel
theorem dL_law_355 : decode cL_law 355 = .ok (.invokevirtual 48, 3) := by decide +kernel
theorem dL_law_358 : decode cL_law 358 = .ok (.aload_n 2, 1) := by decide +kernel
theorem dL_law_359 : decode cL_law 359 = .ok (.aload_n 0, 1) := by decide +kernel
theorem dL_law_360 : decode cL_law 360 = .ok (.iload_n 3, 1) := by decide +kernel
theorem dL_law_361 : decode cL_law 361 = .ok (.iconst 1, 1) := by decide +kernel
theorem dL_law_362 : decode cL_law 362 = .ok (.iadd, 1) := by decide +kernel
theorem dL_law_363 : decode cL_law 363 = .ok (.iaload, 1) := by decide +kernel
theorem dL_law_364 : decode cL_law 364 = .ok (.aload_n 0, 1) := by decide +kernel
theorem dL_law_365 : decode cL_law 365 = .ok (.iload_n 3, 1) := by decide +kernel
theorem dL_law_366 : decode cL_law 366 = .ok (.iconst 2, 1) := by decide +kernel
theorem dL_law_367 : decode cL_law 367 = .ok (.iadd, 1) := by decide +kernel
theorem dL_law_368 : decode cL_law 368 = .ok (.iaload, 1) := by decide +kernel
theorem dL_law_369 : decode cL_law 369 = .ok (.invokevirtual 52, 3) := by decide +kernel
theorem dL_law_372 : decode cL_law 372 = .ok (.if_icmp .eq 67, 3) := by decide +kernel
theorem dL_law_375 : decode cL_law 375 = .ok (.iconst 0, 1) := by decide +kernel
theorem dL_law_376 : decode cL_law 376 = .ok (.ireturn, 1) := by decide +kernel
theorem dL_law_377 : decode cL_law 377 = .ok (.aload_n 1, 1) := by decide +kernel
theorem dL_law_378 : decode cL_law 378 = .ok (.invokevirtual 53, 3) := by decide +kernel
theorem dL_law_381 : decode cL_law 381 = .ok (.aload_n 2, 1) := by decide +kernel
theorem dL_law_382 : decode cL_law 382 = .ok (.invokevirtual 57, 3) := by decide +kernel
theorem dL_law_385 : decode cL_law 385 = .ok (.if_icmp .eq 54, 3) := by decide +kernel
theorem dL_law_388 : decode cL_law 388 = .ok (.iconst 0, 1) := by decide +kernel
theorem dL_law_389 : decode cL_law 389 = .ok (.ireturn, 1) := by decide +kernel
theorem dL_law_390 : decode cL_law 390 = .ok (.aload_n 1, 1) := by decide +kernel
theorem dL_law_391 : decode cL_law 391 = .ok (.invokevirtual 58, 3) := by decide +kernel
theorem dL_law_394 : decode cL_law 394 = .ok (.aload_n 2, 1) := by decide +kernel
theorem dL_law_395 : decode cL_law 395 = .ok (.invokevirtual 61, 3) := by decide +kernel
theorem dL_law_398 : decode cL_law 398 = .ok (.if_icmp .eq 41, 3) := by decide +kernel
theorem dL_law_401 : decode cL_law 401 = .ok (.iconst 0, 1) := by decide +kernel
theorem dL_law_402 : decode cL_law 402 = .ok (.ireturn, 1) := by decide +kernel
theorem dL_law_403 : decode cL_law 403 = .ok (.aload_n 1, 1) := by decide +kernel
theorem dL_law_404 : decode cL_law 404 = .ok (.aload_n 0, 1) := by decide +kernel
theorem dL_law_405 : decode cL_law 405 = .ok (.iload_n 3, 1) := by decide +kernel
theorem dL_law_406 : decode cL_law 406 = .ok (.iconst 1, 1) := by decide +kernel
theorem dL_law_407 : decode cL_law 407 = .ok (.iadd, 1) := by decide +kernel
theorem dL_law_408 : decode cL_law 408 = .ok (.iaload, 1) := by decide +kernel
theorem dL_law_409 : decode cL_law 409 = .ok (.invokevirtual 62, 3) := by decide +kernel
theorem dL_law_412 : decode cL_law 412 = .ok (.aload_n 2, 1) := by decide +kernel
theorem dL_law_413 : decode cL_law 413 = .ok (.aload_n 0, 1) := by decide +kernel
theorem dL_law_414 : decode cL_law 414 = .ok (.iload_n 3, 1) := by decide +kernel
theorem dL_law_415 : decode cL_law 415 = .ok (.iconst 1, 1) := by decide +kernel
theorem dL_law_416 : decode cL_law 416 = .ok (.iadd, 1) := by decide +kernel
theorem dL_law_417 : decode cL_law 417 = .ok (.iaload, 1) := by decide +kernel
theorem dL_law_418 : decode cL_law 418 = .ok (.invokevirtual 65, 3) := by decide +kernel
theorem dL_law_421 : decode cL_law 421 = .ok (.if_icmp .eq 18, 3) := by decide +kernel
theorem dL_law_424 : decode cL_law 424 = .ok (.iconst 0, 1) := by decide +kernel
theorem dL_law_425 : decode cL_law 425 = .ok (.ireturn, 1) := by decide +kernel
theorem dL_law_426 : decode cL_law 426 = .ok (.aload_n 1, 1) := by decide +kernel
theorem dL_law_427 : decode cL_law 427 = .ok (.invokevirtual 66, 3) := by decide +kernel
theorem dL_law_430 : decode cL_law 430 = .ok (.aload_n 2, 1) := by decide +kernel
theorem dL_law_431 : decode cL_law 431 = .ok (.invokevirtual 69, 3) := by decide +kernel
theorem dL_law_434 : decode cL_law 434 = .ok (.if_icmp .eq 5, 3) := by decide +kernel
theorem dL_law_437 : decode cL_law 437 = .ok (.iconst 0, 1) := by decide +kernel
theorem dL_law_438 : decode cL_law 438 = .ok (.ireturn, 1) := by decide +kernel
theorem dL_law_439 : decode cL_law 439 = .ok (.iinc 3 4, 3) := by decide +kernel
theorem dL_law_442 : decode cL_law 442 = .ok (.goto (-424), 3) := by decide +kernel
theorem dL_law_445 : decode cL_law 445 = .ok (.iconst 1, 1) := by decide +kernel
theorem dL_law_446 : decode cL_law 446 = .ok (.ireturn, 1) := by decide +kernel
end
section
set_option maxRecDepth 100000
/-! the two objects' worlds, contracts over them, and rows for arrays and calls -/
/-- a state: numbers by their field, arrays by their field -/
abbrev XS : Type := (Nat → Int32) × (Nat → Nat → Int32)
def setF (σ : XS) (k : Nat) (v : Int32) : XS := (upd σ.1 k v, σ.2)
def setA (σ : XS) (k i : Nat) (v : Int32) : XS := (σ.1, va_up σ.2 k (upd (σ.2 k) i v))
/-- PersistentGraph at h0, its arrays at b (by field), their classes cA -/
def wX (h0 : Nat) (b : Nat → Nat) (cA : Nat → ClassId) (σ : XS) : va_W := [(h0, .inr (0, [.ref (b 0), .ref (b 1), .int (σ.1 2), .int (σ.1 3), .int (σ.1 4), .ref (b 5), .ref (b 6), .ref (b 7), .int (σ.1 8), .int (σ.1 9), .int (σ.1 10), .int (σ.1 11), .ref (b 12), .ref (b 13), .int (σ.1 14), .int (σ.1 15), .ref (b 16)])), (b 0, .inl (cA 0, 12, .inl (σ.2 0))), (b 1, .inl (cA 1, 24, .inl (σ.2 1))), (b 5, .inl (cA 5, 12, .inl (σ.2 5))), (b 6, .inl (cA 6, 12, .inl (σ.2 6))), (b 7, .inl (cA 7, 24, .inl (σ.2 7))), (b 12, .inl (cA 12, 12, .inl (σ.2 12))), (b 13, .inl (cA 13, 24, .inl (σ.2 13))), (b 16, .inl (cA 16, 4, .inl (σ.2 16)))]
def tX (cA : Nat → ClassId) : List (ClassId × FieldType) := [(cA 0, .int), (cA 1, .byte), (cA 5, .byte), (cA 6, .int), (cA 7, .byte), (cA 12, .int), (cA 13, .byte), (cA 16, .byte)]
/-- PersistentGraphModel at h0 -/
def wM (h0 : Nat) (b : Nat → Nat) (cA : Nat → ClassId) (σ : XS) : va_W := [(h0, .inr (1, [.ref (b 0), .ref (b 1), .int (σ.1 2), .ref (b 3), .ref (b 4), .ref (b 5), .int (σ.1 6)])), (b 0, .inl (cA 0, 12, .inl (σ.2 0))), (b 1, .inl (cA 1, 24, .inl (σ.2 1))), (b 3, .inl (cA 3, 4, .inl (σ.2 3))), (b 4, .inl (cA 4, 12, .inl (σ.2 4))), (b 5, .inl (cA 5, 24, .inl (σ.2 5)))]
def tM (cA : Nat → ClassId) : List (ClassId × FieldType) := [(cA 0, .int), (cA 1, .int), (cA 3, .int), (cA 4, .int), (cA 5, .int)]
/-- a contract's start and end over a world wf of a state -/
def cPW (D : va_G) (tys : List (ClassId × FieldType)) (wf : XS → va_W) (σ : XS) (sz : Nat) (U : State) : Prop := U.heap.size = sz ∧ va_P D vwCl (wf σ) U.heap ∧ va_K D vwCl tys U ∧ va_D (fun _ => True) (wf σ)
def cBW (D : va_G) (tys : List (ClassId × FieldType)) (wf : XS → va_W) (A : Nat → Prop) (u : XS) (t : State) : Prop := va_P D vwCl (wf u) t.heap ∧ va_K D vwCl tys t ∧ va_D A (wf u)
abbrev MetI (l : Launch) (y : MethodName) (ws : List Cond) (rm : Room) (D : va_G) (tys : List (ClassId × FieldType)) (wf : XS → va_W) (h0 : Nat) (As : List Value) (sz : Nat) (σ : XS) (R0 : Int32) (σ' : XS) : Prop := Met l y ws rm (va_Pc (.ref h0 :: As) (cPW D tys wf σ sz)) (va_Qi (fun r u => r = R0 ∧ u = σ') (cBW D tys wf (va_A (wf σ) sz)) (va_A (wf σ) sz)) 0 0 (va_A (wf σ) sz)
abbrev MetV (l : Launch) (y : MethodName) (ws : List Cond) (rm : Room) (D : va_G) (tys : List (ClassId × FieldType)) (wf : XS → va_W) (h0 : Nat) (As : List Value) (sz : Nat) (σ : XS) (σ' : XS) : Prop := Met l y ws rm (va_Pc (.ref h0 :: As) (cPW D tys wf σ sz)) (va_Qv (fun u => u = σ') (cBW D tys wf (va_A (wf σ) sz)) (va_A (wf σ) sz)) 0 0 (va_A (wf σ) sz)
theorem cPW_blind {D : va_G} {tys : List (ClassId × FieldType)} {wf : XS → va_W} {σ : XS} {sz : Nat} {av : List Value} : FrameBlind (va_Pc av (cPW D tys wf σ sz)) := by
  intro a U g mk q
  obtain ⟨q0, q1, qP, qK, qD⟩ := q
  exact ⟨q0, q1, qP, va_K.moved (u := U) (U := U.calling g mk a) (Vm.Alike.refl U.vm) qK, qD⟩
section CW
variable {p : Program} {l : Launch} {e : Env} {R : Room} {s : State} {m : MethodId} {args : Array Value} {below : List Frame} {meth : Method} {c : Code} {H : Heap} {locs : List Loc} {cells slots : Nat} {Q : State → Prop}
variable {cc : ByteArray} {pc : Nat} {ls : Array Slot} {rest : List Value} {D : va_G} {A : Nat → Prop} {a : Nat} {tys : List (ClassId × FieldType)} {ws : va_W} {H0 : Heap}
/-- the top number under another name -/
theorem lv_tope {x y : Int32} (h : x = y) (k : W p l e R s m args below meth c H locs cells slots Q (F0 m pc ls (.int y :: rest))) : W p l e R s m args below meth c H locs cells slots Q (F0 m pc ls (.int x :: rest)) := by
  rw [h]
  exact k
theorem xa_iald (hexec : p.tables.exec = Jvm.exec) (hb : c.code = cc) (hK : va_K D vwCl tys s) (hP : va_P D vwCl ws H) (q0 t0 : Nat) {cA : ClassId} {n : Nat} {f : Nat → Int32} (ha : ws[q0]? = some (a, .inl (cA, n, .inl f))) (ht : tys[t0]? = some (cA, .int)) {i : Int32} (j : Nat) (hi : i = nI j) (hj : j < n) (hn : n < 2 ^ 31) (hdg : decode cc pc = .ok (.iaload, 1))
    (kk : W p l e R s m args below meth c H locs cells slots Q (F0 m (pc + 1) ls (.int (f j) :: rest))) : W p l e R s m args below meth c H locs cells slots Q (F0 m pc ls (.int i :: .ref a :: rest)) := by
  subst hi
  refine va_iald hexec hb hK hP q0 t0 ha ht (vp_in_nI hj hn) hdg ?_
  rw [nI_clamp (Nat.lt_trans hj hn)]
  exact kk
theorem xa_bald (hexec : p.tables.exec = Jvm.exec) (hb : c.code = cc) (hK : va_K D vwCl tys s) (hP : va_P D vwCl ws H) (q0 t0 : Nat) {cA : ClassId} {n : Nat} {f : Nat → Int32} (ha : ws[q0]? = some (a, .inl (cA, n, .inl f))) (ht : tys[t0]? = some (cA, .byte)) {i : Int32} (j : Nat) (hi : i = nI j) (hj : j < n) (hn : n < 2 ^ 31) (hdg : decode cc pc = .ok (.baload, 1))
    (kk : W p l e R s m args below meth c H locs cells slots Q (F0 m (pc + 1) ls (.int (f j) :: rest))) : W p l e R s m args below meth c H locs cells slots Q (F0 m pc ls (.int i :: .ref a :: rest)) := by
  subst hi
  refine va_bald hexec hb hK hP q0 t0 ha ht (vp_in_nI hj hn) hdg ?_
  rw [nI_clamp (Nat.lt_trans hj hn)]
  exact kk
theorem xa_iast (hexec : p.tables.exec = Jvm.exec) (hb : c.code = cc) (hK : va_K D vwCl tys s) (hP : va_P D vwCl ws H) (hD : va_D A ws) (hS : va_S A H0 H locs) (q0 t0 : Nat) {cA : ClassId} {n : Nat} {f : Nat → Int32} (ha : ws[q0]? = some (a, .inl (cA, n, .inl f))) (ht : tys[t0]? = some (cA, .int)) {i x : Int32} (j : Nat) (hi : i = nI j) (hj : j < n) (hn : n < 2 ^ 31) (hdg : decode cc pc = .ok (.iastore, 1))
    (kk : ∀ (H1 : Heap) (locs1 : List Loc), va_P D vwCl (ws.set q0 (a, .inl (cA, n, .inl (upd f j x)))) H1 → va_D A (ws.set q0 (a, .inl (cA, n, .inl (upd f j x)))) → va_S A H0 H1 locs1 → W p l e R s m args below meth c H1 locs1 cells slots Q (F0 m (pc + 1) ls rest)) : W p l e R s m args below meth c H locs cells slots Q (F0 m pc ls (.int x :: .int i :: .ref a :: rest)) := by
  subst hi
  refine va_iast hexec hb hK hP hD hS q0 t0 ha ht (vp_in_nI hj hn) hdg ?_
  rw [nI_clamp (Nat.lt_trans hj hn)]
  exact kk
theorem xa_bast (hexec : p.tables.exec = Jvm.exec) (hb : c.code = cc) (hK : va_K D vwCl tys s) (hP : va_P D vwCl ws H) (hD : va_D A ws) (hS : va_S A H0 H locs) (q0 t0 : Nat) {cA : ClassId} {n : Nat} {f : Nat → Int32} (ha : ws[q0]? = some (a, .inl (cA, n, .inl f))) (ht : tys[t0]? = some (cA, .byte)) {i x : Int32} (j : Nat) (hi : i = nI j) (hj : j < n) (hn : n < 2 ^ 31) (hx : x.toInt8.toInt32 = x) (hdg : decode cc pc = .ok (.bastore, 1))
    (kk : ∀ (H1 : Heap) (locs1 : List Loc), va_P D vwCl (ws.set q0 (a, .inl (cA, n, .inl (upd f j x)))) H1 → va_D A (ws.set q0 (a, .inl (cA, n, .inl (upd f j x)))) → va_S A H0 H1 locs1 → W p l e R s m args below meth c H1 locs1 cells slots Q (F0 m (pc + 1) ls rest)) : W p l e R s m args below meth c H locs cells slots Q (F0 m pc ls (.int x :: .int i :: .ref a :: rest)) := by
  subst hi
  refine va_bast hexec hb hK hP hD hS q0 t0 ha ht (vp_in_nI hj hn) hdg ?_
  rw [nI_clamp (Nat.lt_trans hj hn), vp_nar_byte, hx]
  exact kk
variable {y : MethodName} {bytes : ByteArray} {maxL nL n index : Nat} {ret : Option FieldType} {wl : List Cond} {rm : Room} {Ts : List Cond} {own : String} {h0 : Nat} {As st : List Value} {wf : XS → va_W} {σ σ' : XS} {fs : List Value} {q : vw_C}
/-- a call that answers a number, on an object whose whole world is the caller's -/
theorem ca_i {R0 : Int32} (hx : p.tables.exec = Jvm.exec) (hb : c.code = cc) (hml : c.maxLocals = nL) (hown : s.vm.findClass own = some m.cls) (hts : ∀ w ∈ Ts, w.before args s = true) (hM : MetI l y wl rm D tys wf h0 As H.size σ R0 σ') (cw : CallW R s args own q.1 index y bytes maxL ret wl rm 0 0 n) (hK : va_K D vwCl tys s) (hP : va_P D vwCl (wf σ) H) (hD : va_D A (wf σ)) (hS : va_S A H0 H locs) (hA : ∀ q : Nat, H0.size ≤ q → A q) (q0 ci : Nat) (hc : vwCl[ci]? = some q) (he : (wf σ)[q0]? = some (h0, .inr (ci, fs)))
    (hn : As.length = n) (hsize : ls.size = nL) (hstack : st = As.reverse ++ .ref h0 :: rest) (hW : 2 * (F0 m pc ls st).monitorRoom + (rest.map fun v => v.category).sum ≤ 8) (hdg : decode cc pc = .ok (.invokevirtual index, 3)) (hf : cells ≤ R.cells ∧ slots ≤ R.slots)
    (kk : ∀ (H1 : Heap) (locs1 : List Loc), va_P D vwCl (wf σ') H1 → va_D A (wf σ') → va_S A H0 H1 locs1 → W p l e R s m args below meth c H1 locs1 cells slots Q (F0 m (pc + 3) ls (.int R0 :: rest))) : W p l e R s m args below meth c H locs cells slots Q (F0 m pc ls st) := by
  have hF : ∀ z : Nat, va_A (wf σ) H.size z → A z := by
    intro z h
    rcases h with ⟨k, e, h⟩ | h
    · exact hD.2 k (z, e) h
    · exact hA z (Nat.le_trans hS.1 h)
  refine va_calli (va_runV (g := F0 m pc ls st) (As := As) (rest := rest) ⟨hx, hb, hml, hown, hts⟩ hM cw ⟨cPW_blind, va_recv hK hP hc he, fun U hU hW => ⟨rfl, by rw [hU], by rw [hU]; exact hP, va_K.moved hW.alike hK, hD.weaken (fun _ _ _ _ => trivial)⟩⟩ rfl hn hsize hstack hW hdg hf) hS (fun z _ h => hF z h) hF (fun r u t H1 locs1 ht hvm hw hB hz hk hS1 => ?_)
  obtain ⟨hr, hu⟩ := hw
  subst hr
  subst hu
  obtain ⟨hP1, hK1, hD1⟩ := hB
  rw [ht] at hP1
  exact kk H1 locs1 hP1 (hD1.weaken (fun _ z _ h => hF z.1 h)) hS1
/-- a call that answers nothing -/
theorem ca_v (hx : p.tables.exec = Jvm.exec) (hb : c.code = cc) (hml : c.maxLocals = nL) (hown : s.vm.findClass own = some m.cls) (hts : ∀ w ∈ Ts, w.before args s = true) (hM : MetV l y wl rm D tys wf h0 As H.size σ σ') (cw : CallW R s args own q.1 index y bytes maxL ret wl rm 0 0 n) (hK : va_K D vwCl tys s) (hP : va_P D vwCl (wf σ) H) (hD : va_D A (wf σ)) (hS : va_S A H0 H locs) (hA : ∀ q : Nat, H0.size ≤ q → A q) (q0 ci : Nat) (hc : vwCl[ci]? = some q) (he : (wf σ)[q0]? = some (h0, .inr (ci, fs)))
    (hn : As.length = n) (hsize : ls.size = nL) (hstack : st = As.reverse ++ .ref h0 :: rest) (hW : 2 * (F0 m pc ls st).monitorRoom + (rest.map fun v => v.category).sum ≤ 8) (hdg : decode cc pc = .ok (.invokevirtual index, 3)) (hf : cells ≤ R.cells ∧ slots ≤ R.slots)
    (kk : ∀ (H1 : Heap) (locs1 : List Loc), va_P D vwCl (wf σ') H1 → va_D A (wf σ') → va_S A H0 H1 locs1 → W p l e R s m args below meth c H1 locs1 cells slots Q (F0 m (pc + 3) ls rest)) : W p l e R s m args below meth c H locs cells slots Q (F0 m pc ls st) := by
  have hF : ∀ z : Nat, va_A (wf σ) H.size z → A z := by
    intro z h
    rcases h with ⟨k, e, h⟩ | h
    · exact hD.2 k (z, e) h
    · exact hA z (Nat.le_trans hS.1 h)
  refine va_callv (va_runV (g := F0 m pc ls st) (As := As) (rest := rest) ⟨hx, hb, hml, hown, hts⟩ hM cw ⟨cPW_blind, va_recv hK hP hc he, fun U hU hW => ⟨rfl, by rw [hU], by rw [hU]; exact hP, va_K.moved hW.alike hK, hD.weaken (fun _ _ _ _ => trivial)⟩⟩ rfl hn hsize hstack hW hdg hf) hS (fun z _ h => hF z h) hF (fun u t H1 locs1 ht hvm hw hB hz hk hS1 => ?_)
  subst hw
  obtain ⟨hP1, hK1, hD1⟩ := hB
  rw [ht] at hP1
  exact kk H1 locs1 hP1 (hD1.weaken (fun _ z _ h => hF z.1 h)) hS1
end CW
end
section
set_option maxRecDepth 100000
/-! what each method computes, over the state alone (X: PersistentGraph, M: PersistentGraphModel) -/
abbrev btI (s : Int32) (i : Nat) : Int32 := (s >>> (nI i &&& 31)) &&& 1
def okv (v : Int32) : Prop := v = -1 ∨ ∃ j, j < 12 ∧ v = nI j
def okp (v : Int32) : Prop := ∃ j, j < 12 ∧ v = nI j
def x_isH (h : Int32) : Int32 := if h < 0 then 0 else if 3 < h then 0 else 1
def bitsL (s : Int32) : Nat → Nat → Int32 → Int32
  | 0, _, b => b
  | n + 1, i, b => bitsL s n (i + 1) (b + btI s i)
def x_bits (s : Int32) : Int32 := bitsL s 12 0 0
def x_link (σ : XS) (i w : Nat) : Int32 := if btI (σ.1 11) i = 0 then σ.2 1 (2 * i + w) else σ.2 13 (2 * i + w)
def orL (s v : Int32) : Int32 := if v < 0 then s else s ||| ((1 : Int32) <<< (v &&& 31))
def bitO (o : Int32) : Int32 := if 0 ≤ o then (1 : Int32) <<< (o &&& 31) else 0
def leads (o : Int32) : Int32 := if 0 ≤ o then 1 else 0
def swpL (lk : Nat → Nat → Int32) : Nat → Nat → Int32 → Int32
  | 0, _, s => s
  | n + 1, i, s => swpL lk n (i + 1) (if btI s i = 0 then s else orL (orL s (lk i 0)) (lk i 1))
def cloL (lk : Nat → Nat → Int32) : Nat → Int32 → Int32 → Int32
  | 0, s, _ => s
  | n + 1, s, b => if s = b then s else cloL lk n (swpL lk 12 0 s) s
def x_clo (σ : XS) (s : Int32) : Int32 := cloL (x_link σ) 13 s 0
def usedL (f : Nat → Int32) : Nat → Nat → Int32 → Int32
  | 0, _, s => s
  | n + 1, i, s => usedL f n (i + 1) (orL s (f i))
def x_used (σ : XS) : Int32 := x_clo σ (usedL (σ.2 16) 4 0 (bitO (σ.1 15))) ||| σ.1 3
def x_fp1 (σ : XS) (u : Int32) : XS := if σ.1 14 = 4095 then setF (setF σ 14 u) 11 (σ.1 11 &&& u) else σ
def freeL (tk : Int32) : Nat → Nat → Nat
  | 0, i => i
  | n + 1, i => if btI tk i = 0 then i else freeL tk n (i + 1)
def x_free (σ : XS) (u : Int32) : Nat := freeL ((x_fp1 σ u).1 14) 11 0
def x_bring (σ : XS) (j : Nat) : XS := if btI (σ.1 11) j = 0 then setA (setA (setA (setF σ 11 (σ.1 11 ||| ((1 : Int32) <<< (nI j &&& 31)))) 12 j (σ.2 0 j)) 13 (2 * j) (σ.2 1 (2 * j))) 13 (2 * j + 1) (σ.2 1 (2 * j + 1)) else σ
def x_mk2 (σ : XS) (x k : Nat) (v : Int32) : XS := setA (setA (setA (setA (setF (setF σ 14 (σ.1 14 ||| ((1 : Int32) <<< (nI x &&& 31)))) 11 (σ.1 11 ||| ((1 : Int32) <<< (nI x &&& 31)))) 12 x v) 13 (2 * x) (-1)) 13 (2 * x + 1) (-1)) 16 k (nI x)
def x_make (σ : XS) (h v : Int32) : Int32 × XS := if x_isH h = 0 then (-1, σ) else if x_bits (x_used σ) < 12 then (h, x_mk2 (x_fp1 σ (x_used σ)) (x_free σ (x_used σ)) h.toNatClampNeg v) else (-2, σ)
def x_getRoot (σ : XS) (h : Int32) : Int32 × XS := if x_isH h = 0 then (-1, σ) else (leads (σ.1 15), setA σ 16 h.toNatClampNeg (σ.1 15))
def x_setRoot (σ : XS) (h : Int32) : Int32 × XS := if x_isH h = 0 then (-1, σ) else (leads (σ.2 16 h.toNatClampNeg), setF σ 15 (σ.2 16 h.toNatClampNeg))
def x_fol (σ : XS) (k j w : Nat) : Int32 × XS := (leads ((x_bring σ j).2 13 (2 * j + w)), setA (x_bring σ j) 16 k ((x_bring σ j).2 13 (2 * j + w)))
def x_follow (σ : XS) (h g w : Int32) : Int32 × XS := if x_isH h = 0 then (-1, σ) else if x_isH g = 0 then (-1, σ) else if w < 0 then (-1, σ) else if w ≤ 1 then (if 0 ≤ σ.2 16 g.toNatClampNeg then x_fol σ h.toNatClampNeg (σ.2 16 g.toNatClampNeg).toNatClampNeg w.toNatClampNeg else (-3, σ)) else (-1, σ)
def x_lnk (σ : XS) (g j w : Nat) : Int32 × XS := (leads ((x_bring σ j).2 16 g), setA (x_bring σ j) 13 (2 * j + w) ((x_bring σ j).2 16 g))
def x_linkM (σ : XS) (h w g : Int32) : Int32 × XS := if x_isH h = 0 then (-1, σ) else if x_isH g = 0 then (-1, σ) else if w < 0 then (-1, σ) else if w ≤ 1 then (if 0 ≤ σ.2 16 h.toNatClampNeg then x_lnk σ g.toNatClampNeg (σ.2 16 h.toNatClampNeg).toNatClampNeg w.toNatClampNeg else (-3, σ)) else (-1, σ)
def x_drop (σ : XS) (h : Int32) : Int32 × XS := if x_isH h = 0 then (-1, σ) else (leads (σ.2 16 h.toNatClampNeg), setA σ 16 h.toNatClampNeg (-1))
def x_val (σ : XS) (j : Nat) : Int32 × XS := ((x_bring σ j).2 12 j, x_bring σ j)
def x_value (σ : XS) (h : Int32) : Int32 × XS := if x_isH h = 0 then (0, σ) else if 0 ≤ σ.2 16 h.toNatClampNeg then x_val σ (σ.2 16 h.toNatClampNeg).toNatClampNeg else (0, σ)
def x_setValue (σ : XS) (h v : Int32) : Int32 × XS := if x_isH h = 0 then (-1, σ) else if 0 ≤ σ.2 16 h.toNatClampNeg then (1, setA (x_bring σ (σ.2 16 h.toNatClampNeg).toNatClampNeg) 12 (σ.2 16 h.toNatClampNeg).toNatClampNeg v) else (-3, σ)
def sameH (f : Nat → Int32) (g h : Int32) : Int32 := if x_isH g = 0 then 0 else if x_isH h = 0 then 0 else if f g.toNatClampNeg < 0 then 0 else if f g.toNatClampNeg = f h.toNatClampNeg then 1 else 0
def x_diff (σ : XS) (j : Nat) : Int32 := if btI (σ.1 3) j = 0 then 1 else if btI (σ.1 11) j = 0 then 0 else if σ.2 12 j = σ.2 0 j then (if σ.2 13 (2 * j) = σ.2 1 (2 * j) then (if σ.2 13 (2 * j + 1) = σ.2 1 (2 * j + 1) then 0 else 1) else 1) else 1
def chgL (σ : XS) (s : Int32) : Nat → Nat → Int32 → Int32
  | 0, _, ch => ch
  | n + 1, i, ch => chgL σ s n (i + 1) (if btI s i = 0 then ch else if x_diff σ i = 0 then ch else ch ||| ((1 : Int32) <<< (nI i &&& 31)))
def x_reachS (σ : XS) : Int32 := x_clo σ (bitO (σ.1 15))
def x_chg (σ : XS) : Int32 := chgL σ (x_reachS σ) 12 0 0
def wl2 (σ : XS) (i k : Nat) : XS := setF (setA (setA (setA (setA σ 5 k (nI i)) 6 k (σ.2 12 i)) 7 (2 * k) (σ.2 13 (2 * i))) 7 (2 * k + 1) (σ.2 13 (2 * i + 1))) 4 (nI (k + 1))
def wl1 (σ : XS) (i : Nat) : XS := wl2 (x_bring σ i) i ((x_bring σ i).1 4).toNatClampNeg
def wlL (ch steps : Int32) : Nat → Nat → XS → XS
  | 0, _, σ => σ
  | n + 1, i, σ => if steps ≤ σ.1 4 then σ else wlL ch steps n (i + 1) (if btI ch i = 0 then σ else wl1 σ i)
def x_wlog (σ : XS) (ch steps : Int32) : XS := wlL ch steps 12 0 (setF (setF σ 4 0) 8 0)
def x_mark (σ : XS) : XS := setF (setF (setF σ 9 (σ.1 15)) 10 (x_reachS (setF σ 9 (σ.1 15)))) 8 1
def mv1 (σ : XS) (k j : Nat) : XS := setA (setA (setA σ 0 j (σ.2 6 k)) 1 (2 * j) (σ.2 7 (2 * k))) 1 (2 * j + 1) (σ.2 7 (2 * k + 1))
def mvL (steps : Int32) : Nat → Nat → XS → XS
  | 0, _, σ => σ
  | n + 1, k, σ => if σ.1 4 ≤ nI k then σ else if steps ≤ nI k then σ else mvL steps n (k + 1) (mv1 σ k (σ.2 5 k).toNatClampNeg)
def mvE (σ : XS) (steps : Int32) : XS := if σ.1 4 ≤ steps then setF (setF σ 2 (σ.1 9)) 3 (σ.1 10) else σ
def x_move (σ : XS) (steps : Int32) : XS := mvE (mvL steps 12 0 σ) steps
def rsL (fk : Nat) : Nat → Nat → XS → XS
  | 0, _, σ => σ
  | n + 1, i, σ => rsL fk n (i + 1) (setA σ fk i (-1))
def x_restart (σ : XS) : XS := rsL 16 4 0 (setF (setF (setF σ 11 0) 14 (σ.1 3)) 15 (σ.1 2))
def x_recover (σ : XS) : XS := if σ.1 8 = 0 then x_restart (setF (setF σ 4 0) 8 0) else x_restart (setF (setF (x_move σ 12) 4 0) 8 0)
def x_commit (σ : XS) : Int32 × XS := (x_bits (x_chg σ), setF (setF (x_move (x_mark (x_wlog σ (x_chg σ) 12)) 12) 4 0) 8 0)
def x_abort (σ : XS) : Int32 × XS := (x_bits ((x_restart σ).1 3), x_restart σ)
def x_cr2 (σ : XS) (cnt left : Int32) : XS := if left ≤ cnt then σ else if left - cnt - 1 ≤ 12 then x_move (x_mark σ) (left - cnt - 1) else x_move (x_mark σ) 12
def x_cr3 (σ : XS) : Int32 × XS := (if σ.1 8 = 0 then 0 else 1, x_recover σ)
def x_cr1 (σ : XS) (left : Int32) : Int32 × XS := x_cr3 (x_cr2 (x_wlog σ (x_chg σ) left) (x_bits (x_chg σ)) left)
def x_crash (σ : XS) (w : Int32) : Int32 × XS := if 0 ≤ w then x_cr1 σ w else x_cr1 σ 0
def x_reachable (σ : XS) : Int32 := x_bits (x_reachS σ)
/-- the reference -/
def m_in (s : Int32) (i : Nat) : Int32 := if btI s i = 1 then 1 else 0
def sprI (lk : Nat → Int32) : Nat → Nat → Int32 → Int32
  | 0, _, s => s
  | n + 1, k, s => sprI lk n (k + 1) (if m_in s (k / 2) = 0 then s else orL s (lk k))
def sprL (lk : Nat → Int32) : Nat → Int32 → Int32
  | 0, s => s
  | n + 1, s => sprL lk n (sprI lk 24 0 s)
def m_lk (σ : XS) (w : Int32) (k : Nat) : Int32 := if w = 0 then σ.2 5 k else σ.2 1 k
def m_spread (σ : XS) (s w : Int32) : Int32 := sprL (m_lk σ w) 12 s
def m_comm (σ : XS) : Int32 := m_spread σ (bitO (σ.1 6)) 0
def m_reach (σ : XS) : Int32 := m_spread σ (bitO (σ.1 2)) 1
def musL (f : Nat → Int32) : Nat → Nat → Int32 → Int32
  | 0, _, s => s
  | n + 1, i, s => musL f n (i + 1) (s ||| bitO (f i))
def m_used (σ : XS) : Int32 := m_spread σ (musL (σ.2 3) 4 0 (bitO (σ.1 2))) 1 ||| m_comm σ
def szL (s : Int32) : Nat → Nat → Int32 → Int32
  | 0, _, c => c
  | n + 1, i, c => szL s n (i + 1) (if m_in s i = 0 then c else c + 1)
def m_size (s : Int32) : Int32 := szL s 12 0 0
def mfr (s : Int32) : Nat → Nat → Nat
  | 0, i => i
  | n + 1, i => if m_in s i = 0 then i else mfr s n (i + 1)
def m_mk2 (σ : XS) (x k : Nat) (v : Int32) : XS := setA (setA (setA (setA σ 0 x v) 1 (2 * x) (-1)) 1 (2 * x + 1) (-1)) 3 k (nI x)
def m_make (σ : XS) (h v : Int32) : Int32 × XS := if x_isH h = 0 then (-1, σ) else if mfr (m_used σ) 12 0 < 12 then (h, m_mk2 σ (mfr (m_used σ) 12 0) h.toNatClampNeg v) else (-2, σ)
def m_getRoot (σ : XS) (h : Int32) : Int32 × XS := if x_isH h = 0 then (-1, σ) else (leads (σ.1 2), setA σ 3 h.toNatClampNeg (σ.1 2))
def m_setRoot (σ : XS) (h : Int32) : Int32 × XS := if x_isH h = 0 then (-1, σ) else (leads (σ.2 3 h.toNatClampNeg), setF σ 2 (σ.2 3 h.toNatClampNeg))
def m_fol (σ : XS) (k j w : Nat) : Int32 × XS := (leads (σ.2 1 (2 * j + w)), setA σ 3 k (σ.2 1 (2 * j + w)))
def m_follow (σ : XS) (h g w : Int32) : Int32 × XS := if x_isH h = 0 then (-1, σ) else if x_isH g = 0 then (-1, σ) else if w < 0 then (-1, σ) else if w ≤ 1 then (if 0 ≤ σ.2 3 g.toNatClampNeg then m_fol σ h.toNatClampNeg (σ.2 3 g.toNatClampNeg).toNatClampNeg w.toNatClampNeg else (-3, σ)) else (-1, σ)
def m_lnk (σ : XS) (g j w : Nat) : Int32 × XS := (leads (σ.2 3 g), setA σ 1 (2 * j + w) (σ.2 3 g))
def m_linkM (σ : XS) (h w g : Int32) : Int32 × XS := if x_isH h = 0 then (-1, σ) else if x_isH g = 0 then (-1, σ) else if w < 0 then (-1, σ) else if w ≤ 1 then (if 0 ≤ σ.2 3 h.toNatClampNeg then m_lnk σ g.toNatClampNeg (σ.2 3 h.toNatClampNeg).toNatClampNeg w.toNatClampNeg else (-3, σ)) else (-1, σ)
def m_drop (σ : XS) (h : Int32) : Int32 × XS := if x_isH h = 0 then (-1, σ) else (leads (σ.2 3 h.toNatClampNeg), setA σ 3 h.toNatClampNeg (-1))
def m_value (σ : XS) (h : Int32) : Int32 := if x_isH h = 0 then 0 else if σ.2 3 h.toNatClampNeg < 0 then 0 else σ.2 0 (σ.2 3 h.toNatClampNeg).toNatClampNeg
def m_setValue (σ : XS) (h v : Int32) : Int32 × XS := if x_isH h = 0 then (-1, σ) else if 0 ≤ σ.2 3 h.toNatClampNeg then (1, setA σ 0 (σ.2 3 h.toNatClampNeg).toNatClampNeg v) else (-3, σ)
def m_eq (σ : XS) (i : Nat) : Int32 := if σ.2 0 i = σ.2 4 i then (if σ.2 1 (2 * i) = σ.2 5 (2 * i) then (if σ.2 1 (2 * i + 1) = σ.2 5 (2 * i + 1) then 1 else 0) else 0) else 0
def mchL (σ : XS) (s o : Int32) : Nat → Nat → Int32 → Int32
  | 0, _, c => c
  | n + 1, i, c => mchL σ s o n (i + 1) (if m_in s i = 0 then c else if m_in o i = 0 then c + 1 else if m_eq σ i = 0 then c + 1 else c)
def m_chg (σ : XS) : Int32 := mchL σ (m_reach σ) (m_comm σ) 12 0 0
def cpyA (σ : XS) (i f0 f1 g0 g1 : Nat) : XS := setA (setA (setA σ g0 i (σ.2 f0 i)) g1 (2 * i) (σ.2 f1 (2 * i))) g1 (2 * i + 1) (σ.2 f1 (2 * i + 1))
def cpyL (s : Int32) (f0 f1 g0 g1 : Nat) : Nat → Nat → XS → XS
  | 0, _, σ => σ
  | n + 1, i, σ => cpyL s f0 f1 g0 g1 n (i + 1) (if m_in s i = 0 then σ else cpyA σ i f0 f1 g0 g1)
def m_commit (σ : XS) : Int32 × XS := (m_chg σ, cpyL (m_reach σ) 0 1 4 5 12 0 (setF σ 6 (σ.1 2)))
def m_abort (σ : XS) : Int32 × XS := (m_size (m_comm σ), cpyL (m_comm σ) 4 5 0 1 12 0 (rsL 3 4 0 (setF σ 2 (σ.1 6))))
def m_crash (σ : XS) (w : Int32) : Int32 × XS := if w ≤ m_chg σ then (0, (m_abort σ).2) else (1, (m_abort (m_commit σ).2).2)
def m_reachable (σ : XS) : Int32 := m_size (m_reach σ)
/-- what the walks need of a state of PersistentGraph -/
def okX (σ : XS) : Prop := (∀ k, okv (σ.2 1 k)) ∧ (∀ k, okv (σ.2 13 k)) ∧ (∀ k, okv (σ.2 7 k)) ∧ (∀ k, okv (σ.2 16 k)) ∧ (∀ k, okp (σ.2 5 k)) ∧ okv (σ.1 15) ∧ okv (σ.1 2) ∧ okv (σ.1 9) ∧ ∃ n, n ≤ 12 ∧ σ.1 4 = nI n
/-- and of one of PersistentGraphModel -/
def okM (σ : XS) : Prop := (∀ k, okv (σ.2 1 k)) ∧ (∀ k, okv (σ.2 5 k)) ∧ (∀ k, okv (σ.2 3 k)) ∧ okv (σ.1 2) ∧ okv (σ.1 6)
theorem ok_byte : ∀ j, j < 12 → (nI j).toInt8.toInt32 = nI j := by decide +kernel
theorem okv_byte {v : Int32} (h : okv v) : v.toInt8.toInt32 = v := by
  rcases h with rfl | ⟨j, hj, rfl⟩
  · decide +kernel
  · exact ok_byte j hj
theorem okp_v {v : Int32} (h : okp v) : okv v := Or.inr h
theorem okv_nn {v : Int32} (h : okv v) (c : 0 ≤ v) : ∃ j, j < 12 ∧ v = nI j := by
  rcases h with rfl | h
  · exact absurd c (by decide)
  · exact h
theorem okv_nl {v : Int32} (h : okv v) (c : ¬ v < 0) : ∃ j, j < 12 ∧ v = nI j := by
  rcases h with rfl | h
  · exact absurd (by decide) c
  · exact h
theorem isH_in {h : Int32} (c : ¬ x_isH h = 0) : ∃ k, k < 4 ∧ h = nI k := by
  unfold x_isH at c
  by_cases h1 : h < 0
  · rw [if_pos h1] at c; exact absurd rfl c
  · rw [if_neg h1] at c
    by_cases h2 : 3 < h
    · rw [if_pos h2] at c; exact absurd rfl c
    · obtain ⟨j, hj, e⟩ := nI_of2 (M := 3) (n := 3) (by decide) h1 (Int32.not_lt.mp h2)
      exact ⟨j, by omega, e⟩
theorem w_in {w : Int32} (c1 : ¬ w < 0) (c2 : w ≤ 1) : ∃ k, k < 2 ∧ w = nI k := by
  obtain ⟨j, hj, e⟩ := nI_of2 (M := 1) (n := 1) (by decide) c1 c2
  exact ⟨j, by omega, e⟩
theorem e2m (i : Nat) : (2 : Int32) * nI i = nI (2 * i) := pk_mul 2 i
theorem okv_m1 : okv (-1) := Or.inl rfl
theorem okv_0 : okv 0 := Or.inr ⟨0, by decide, rfl⟩
theorem okp_0 : okp 0 := ⟨0, by decide, rfl⟩
theorem okv_n {j : Nat} (h : j < 12) : okv (nI j) := Or.inr ⟨j, h, rfl⟩
theorem ok_up {P : Int32 → Prop} {f : Nat → Int32} {k : Nat} {v : Int32} (h : ∀ j, P (f j)) (hv : P v) : ∀ j, P (upd f k v j) := by
  intro j
  unfold upd
  by_cases c : j = k
  · rw [if_pos c]; exact hv
  · rw [if_neg c]; exact h j
end
section
set_option maxRecDepth 100000
/-! what the walks need is kept -/
theorem setA_same (σ : XS) (a i : Nat) (v : Int32) : (setA σ a i v).2 a i = v := by
  simp [setA, va_up, upd]
theorem okX_bring {σ : XS} (j : Nat) (h : okX σ) : okX (x_bring σ j) := by
  unfold x_bring
  by_cases c : btI (σ.1 11) j = 0
  · rw [if_pos c]
    obtain ⟨h1, h13, h7, h16, h5, hr, hd, hl, hc⟩ := h
    exact ⟨h1, ok_up (ok_up h13 (h1 _)) (h1 _), h7, h16, h5, hr, hd, hl, hc⟩
  · rw [if_neg c]
    exact h
theorem x_bring_4 (σ : XS) (j : Nat) : (x_bring σ j).1 4 = σ.1 4 := by
  unfold x_bring
  by_cases c : btI (σ.1 11) j = 0
  · rw [if_pos c]; rfl
  · rw [if_neg c]
theorem okX_48 {σ : XS} (h : okX σ) : okX (setF (setF σ 4 0) 8 0) := by
  obtain ⟨h1, h13, h7, h16, h5, hr, hd, hl, hc⟩ := h
  exact ⟨h1, h13, h7, h16, h5, hr, hd, hl, 0, Nat.zero_le _, rfl⟩
theorem okX_wl2 {σ : XS} {i k : Nat} (hi : i < 12) (hk : k < 12) (h : okX σ) : okX (wl2 σ i k) := by
  obtain ⟨h1, h13, h7, h16, h5, hr, hd, hl, hc⟩ := h
  exact ⟨h1, h13, ok_up (ok_up h7 (h13 _)) (h13 _), h16, ok_up h5 ⟨i, hi, rfl⟩, hr, hd, hl, k + 1, hk, rfl⟩
theorem okX_wlL (ch steps : Int32) : ∀ (n i : Nat) (σ : XS), i + n = 12 → okX σ → (∃ k, k ≤ i ∧ σ.1 4 = nI k) → okX (wlL ch steps n i σ) := by
  intro n
  induction n with
  | zero => intro i σ _ h _; exact h
  | succ n ih =>
    intro i σ hin h hk
    obtain ⟨k, hk, ek⟩ := hk
    show okX (if steps ≤ σ.1 4 then σ else wlL ch steps n (i + 1) (if btI ch i = 0 then σ else wl1 σ i))
    by_cases c1 : steps ≤ σ.1 4
    · rw [if_pos c1]; exact h
    · rw [if_neg c1]
      by_cases c2 : btI ch i = 0
      · rw [if_pos c2]
        exact ih (i + 1) σ (by omega) h ⟨k, by omega, ek⟩
      · rw [if_neg c2]
        have e : ((x_bring σ i).1 4).toNatClampNeg = k := by rw [x_bring_4, ek]; exact nI_clamp (by omega)
        have e2 : wl1 σ i = wl2 (x_bring σ i) i k := by unfold wl1; rw [e]
        rw [e2]
        exact ih (i + 1) _ (by omega) (okX_wl2 (by omega) (by omega) (okX_bring i h)) ⟨k + 1, by omega, rfl⟩
theorem okX_wlog {σ : XS} (ch steps : Int32) (h : okX σ) : okX (x_wlog σ ch steps) := okX_wlL ch steps 12 0 _ rfl (okX_48 h) ⟨0, Nat.le_refl 0, rfl⟩
theorem okX_mark {σ : XS} (h : okX σ) : okX (x_mark σ) := by
  obtain ⟨h1, h13, h7, h16, h5, hr, hd, hl, hc⟩ := h
  exact ⟨h1, h13, h7, h16, h5, hr, hd, hr, hc⟩
theorem okX_mv1 {σ : XS} (k : Nat) {j : Nat} (hj : j < 12) (h : okX σ) : okX (mv1 σ k j) := by
  obtain ⟨h1, h13, h7, h16, h5, hr, hd, hl, hc⟩ := h
  exact ⟨ok_up (ok_up h1 (h7 _)) (h7 _), h13, h7, h16, h5, hr, hd, hl, hc⟩
theorem okX_mvL (steps : Int32) : ∀ (n k : Nat) (σ : XS), okX σ → okX (mvL steps n k σ) := by
  intro n
  induction n with
  | zero => intro k σ h; exact h
  | succ n ih =>
    intro k σ h
    show okX (if σ.1 4 ≤ nI k then σ else if steps ≤ nI k then σ else mvL steps n (k + 1) (mv1 σ k (σ.2 5 k).toNatClampNeg))
    by_cases c1 : σ.1 4 ≤ nI k
    · rw [if_pos c1]; exact h
    · rw [if_neg c1]
      by_cases c2 : steps ≤ nI k
      · rw [if_pos c2]; exact h
      · rw [if_neg c2]
        obtain ⟨j, hj, ej⟩ := h.2.2.2.2.1 k
        rw [ej, nI_clamp (by omega)]
        exact ih (k + 1) _ (okX_mv1 k hj h)
theorem okX_mvE {σ : XS} (steps : Int32) (h : okX σ) : okX (mvE σ steps) := by
  unfold mvE
  by_cases c : σ.1 4 ≤ steps
  · rw [if_pos c]
    obtain ⟨h1, h13, h7, h16, h5, hr, hd, hl, hc⟩ := h
    exact ⟨h1, h13, h7, h16, h5, hr, hl, hl, hc⟩
  · rw [if_neg c]; exact h
theorem okX_move {σ : XS} (steps : Int32) (h : okX σ) : okX (x_move σ steps) := okX_mvE steps (okX_mvL steps 12 0 σ h)
theorem okX_restart {σ : XS} (h : okX σ) : okX (x_restart σ) := by
  obtain ⟨h1, h13, h7, h16, h5, hr, hd, hl, hc⟩ := h
  exact ⟨h1, h13, h7, ok_up (ok_up (ok_up (ok_up h16 okv_m1) okv_m1) okv_m1) okv_m1, h5, hd, hd, hl, hc⟩
theorem freeL_le (tk : Int32) : ∀ (n i : Nat), freeL tk n i ≤ i + n := by
  intro n
  induction n with
  | zero => intro i; exact Nat.le_refl _
  | succ n ih =>
    intro i
    show (if btI tk i = 0 then i else freeL tk n (i + 1)) ≤ i + (n + 1)
    by_cases c : btI tk i = 0
    · rw [if_pos c]; omega
    · rw [if_neg c]
      have := ih (i + 1)
      omega
theorem x_free_lt (σ : XS) (u : Int32) : x_free σ u < 12 := by
  have := freeL_le ((x_fp1 σ u).1 14) 11 0
  unfold x_free
  omega
end
section
set_option maxRecDepth 100000
set_option maxHeartbeats 4000000 in
theorem metX0_isHandle (l : Launch) (dC : Nat → ClassId) (dI : Nat → Nat → Nat) (h0 : Nat) (b : Nat → Nat) (cA : Nat → ClassId) (sz : Nat) (σ : XS) (p1 : Int32) : MetI l yX0_isHandle (ws_ yX0_isHandle cX0_isHandle 2 (some .boolean)) ({ frames := 0, cells := 0, slots := 0, locals := 0 }) (dC, dI) (tX cA) (wX h0 b cA) h0 [.int p1] sz σ (x_isH p1) σ := by
  refine Met.ofW (cc := cX0_isHandle) (maxL := 2) (ret := (some .boolean)) (by decide) rfl ?_
  intro p e s m args below meth c s₁ B hml hv
  obtain ⟨rfl, hsz, hP, hK, hD0⟩ := hv
  have hx := B.exec
  have hb := B.bytes
  have hr := B.returns
  have hts := atoms_spec (ws := (ws_ yX0_isHandle cX0_isHandle 2 (some .boolean))) B.pre
  have hts : ∀ w ∈ lw_all, w.before _ s = true := fun w h => hts w (List.mem_cons_of_mem _ h)
  have hown : s.vm.findClass RX0 = some m.cls := findClass_of_methodNamed B.named
  have hlocks := B.notSynchronized
  subst hsz
  have hD := hD0.self (sz := s.heap.size)
  generalize hAe : va_A (wX h0 b cA σ) s.heap.size = A at hD ⊢
  have hA : ∀ q : Nat, s.heap.size ≤ q → A q := fun q h => by rw [← hAe]; exact Or.inr h
  have hS : va_S A s.heap s.heap [] := va_S.rf
  have hl := lv_entry ([.ref h0, .int p1]) (n := 2) (Nat.le_of_ble_eq_true rfl)
  rw [lg_entry_eq]
  generalize (lg_sl ([.ref h0, .int p1]) ++ List.replicate (2 - (lg_sl ([.ref h0, .int p1])).length) Slot.unset).toArray = ls at hl ⊢
  have hl : lv_has ls 2 [(0, .ref h0), (1, .int p1)] := hl
  refine lv_iload_n hx hb dX0_isHandle_0 rfl (lv_at hl 1 rfl) ?_
  refine lv_if_lt (tgt := 13) hx hb dX0_isHandle_1 (by decide) (fun c_1 => ?_) (fun c_1 => ?_)
  · refine lv_iconst (v := 0) hx hb dX0_isHandle_13 (by decide) ?_
    have hqr : 0 = x_isH p1 := by simp only [x_isH, if_pos c_1]
    have hqs : σ = σ := rfl
    exact W.zret (v := 0) hx hb hr rfl (fun t ht hW => ⟨⟨0, σ, rfl, ⟨hqr, hqs⟩, by rw [ht]; exact hP, va_K.moved hW.alike hK, hD⟩, hS.F ht⟩) hS.2.2 dX0_isHandle_14
  · refine lv_iload_n hx hb dX0_isHandle_4 rfl (lv_at hl 1 rfl) ?_
    refine lv_iconst (v := 3) hx hb dX0_isHandle_5 (by decide) ?_
    refine lv_icmp_gt (tgt := 13) hx hb dX0_isHandle_6 (by decide) (fun c_6 => ?_) (fun c_6 => ?_)
    · refine lv_iconst (v := 0) hx hb dX0_isHandle_13 (by decide) ?_
      have hqr : 0 = x_isH p1 := by simp only [x_isH, if_neg c_1, if_pos c_6]
      have hqs : σ = σ := rfl
      exact W.zret (v := 0) hx hb hr rfl (fun t ht hW => ⟨⟨0, σ, rfl, ⟨hqr, hqs⟩, by rw [ht]; exact hP, va_K.moved hW.alike hK, hD⟩, hS.F ht⟩) hS.2.2 dX0_isHandle_14
    · refine lv_iconst (v := 1) hx hb dX0_isHandle_9 (by decide) ?_
      refine lv_goto (tgt := 14) hx hb dX0_isHandle_10 (by decide) ?_
      have hqr : 1 = x_isH p1 := by simp only [x_isH, if_neg c_1, if_neg c_6]
      have hqs : σ = σ := rfl
      exact W.zret (v := 1) hx hb hr rfl (fun t ht hW => ⟨⟨1, σ, rfl, ⟨hqr, hqs⟩, by rw [ht]; exact hP, va_K.moved hW.alike hK, hD⟩, hS.F ht⟩) hS.2.2 dX0_isHandle_14

set_option maxHeartbeats 4000000 in
theorem lpX0_bitsIn_4 {p : Program} {l : Launch} {e : Env} {s : State} {m : MethodId} {below : List Frame} {meth : Method} {c : Code} {args : Array Value} {Q : State → Prop} {dC : Nat → ClassId} {dI : Nat → Nat → Nat} {A : Nat → Prop} {h0 : Nat} {b : Nat → Nat} {cA : Nat → ClassId} (hx : p.tables.exec = Jvm.exec) (hb : c.code = cX0_bitsIn) (hml : c.maxLocals = 4) (hown : s.vm.findClass RX0 = some m.cls) (hts : ∀ w ∈ lw_all, w.before args s = true) (hA : ∀ q : Nat, s.heap.size ≤ q → A q) (hK : va_K (dC, dI) vwCl (tX cA) s) (p1 : Int32) :
    ∀ (n i : Nat) (t : Int32) (σ : XS), i + n = 12 → ∀ (H : Heap) (locs : List Loc), va_P (dC, dI) vwCl (wX h0 b cA σ) H → va_D A (wX h0 b cA σ) → va_S A s.heap H locs → ∀ (ls : Array Slot), lv_has ls 4 [(0, .ref h0), (1, .int p1), (2, .int t), (3, .int (nI i))] →
    (∀ (H : Heap) (locs : List Loc), va_P (dC, dI) vwCl (wX h0 b cA σ) H → va_D A (wX h0 b cA σ) → va_S A s.heap H locs → ∀ (ls : Array Slot), lv_has ls 4 [(2, .int (bitsL p1 n i t))] → W p l e (headSpec (ws_ yX0_bitsIn cX0_bitsIn 4 (some .int)) ({ frames := 0, cells := 0, slots := 0, locals := 0 })).room s m args below meth c H locs 0 0 Q (F0 m 24 ls [])) → W p l e (headSpec (ws_ yX0_bitsIn cX0_bitsIn 4 (some .int)) ({ frames := 0, cells := 0, slots := 0, locals := 0 })).room s m args below meth c H locs 0 0 Q (F0 m 4 ls []) := by
  intro n
  induction n with
  | zero =>
    intro i t σ hin H locs hP hD hS ls hl hk
    obtain rfl : i = 12 := by omega
    refine lv_iload_n hx hb dX0_bitsIn_4 rfl (lv_at hl 3 rfl) ?_
    refine lv_bipush (v := 12) hx hb dX0_bitsIn_5 (by decide) ?_
    refine lv_icmp_ge (tgt := 24) hx hb dX0_bitsIn_7 (by decide) (fun c_7 => ?_) (fun c_7 => ?_)
    · exact hk _ _ hP hD hS ls (lv_sub hl [2] rfl)
    · exact absurd (by decide +kernel) c_7
  | succ n ih =>
    intro i t σ hin H locs hP hD hS ls hl hk
    have hi : i < 12 := by omega
    refine lv_iload_n hx hb dX0_bitsIn_4 rfl (lv_at hl 3 rfl) ?_
    refine lv_bipush (v := 12) hx hb dX0_bitsIn_5 (by decide) ?_
    refine lv_icmp_ge (tgt := 24) hx hb dX0_bitsIn_7 (by decide) (fun c_7 => ?_) (fun c_7 => ?_)
    · exact absurd c_7 (nI_ge (b := 12) (by omega) (by decide))
    · refine lv_iload_n hx hb dX0_bitsIn_10 rfl (lv_at hl 2 rfl) ?_
      refine lv_iload_n hx hb dX0_bitsIn_11 rfl (lv_at hl 1 rfl) ?_
      refine lv_iload_n hx hb dX0_bitsIn_12 rfl (lv_at hl 3 rfl) ?_
      refine lv_ishr hx hb dX0_bitsIn_13 ?_
      refine lv_iconst (v := 1) hx hb dX0_bitsIn_14 (by decide) ?_
      refine lv_iand hx hb dX0_bitsIn_15 ?_
      refine lv_iadd hx hb dX0_bitsIn_16 ?_
      refine lv_istore_n (lv' := [(2, .int (t + ((p1 >>> ((nI i) &&& 31)) &&& 1))), (0, .ref h0), (1, .int p1), (3, .int (nI i))]) hx hb dX0_bitsIn_17 rfl hl (by decide) rfl (fun ls hl => ?_)
      refine lv_iinc (v := nI (i + 1)) (lv' := [(3, .int (nI (i + 1))), (2, .int (t + ((p1 >>> ((nI i) &&& 31)) &&& 1))), (0, .ref h0), (1, .int p1)]) hx hb dX0_bitsIn_18 hl (k := 3) rfl (nI_1 _) (by decide) rfl (fun ls hl => ?_)
      refine lv_goto (tgt := 4) hx hb dX0_bitsIn_21 (by decide) ?_
      rw [show bitsL p1 (n + 1) i t = bitsL p1 n (i + 1) (t + ((p1 >>> ((nI i) &&& 31)) &&& 1)) from by simp only [bitsL, btI, if_neg c_7]] at hk
      exact ih (i + 1) (t + ((p1 >>> ((nI i) &&& 31)) &&& 1)) σ (by omega)  _ _ hP hD hS ls (lv_sub hl [2, 3, 1, 0] rfl) hk

set_option maxHeartbeats 4000000 in
theorem metX0_bitsIn (l : Launch) (dC : Nat → ClassId) (dI : Nat → Nat → Nat) (h0 : Nat) (b : Nat → Nat) (cA : Nat → ClassId) (sz : Nat) (σ : XS) (p1 : Int32) : MetI l yX0_bitsIn (ws_ yX0_bitsIn cX0_bitsIn 4 (some .int)) ({ frames := 0, cells := 0, slots := 0, locals := 0 }) (dC, dI) (tX cA) (wX h0 b cA) h0 [.int p1] sz σ (x_bits p1) σ := by
  refine Met.ofW (cc := cX0_bitsIn) (maxL := 4) (ret := (some .int)) (by decide) rfl ?_
  intro p e s m args below meth c s₁ B hml hv
  obtain ⟨rfl, hsz, hP, hK, hD0⟩ := hv
  have hx := B.exec
  have hb := B.bytes
  have hr := B.returns
  have hts := atoms_spec (ws := (ws_ yX0_bitsIn cX0_bitsIn 4 (some .int))) B.pre
  have hts : ∀ w ∈ lw_all, w.before _ s = true := fun w h => hts w (List.mem_cons_of_mem _ h)
  have hown : s.vm.findClass RX0 = some m.cls := findClass_of_methodNamed B.named
  have hlocks := B.notSynchronized
  subst hsz
  have hD := hD0.self (sz := s.heap.size)
  generalize hAe : va_A (wX h0 b cA σ) s.heap.size = A at hD ⊢
  have hA : ∀ q : Nat, s.heap.size ≤ q → A q := fun q h => by rw [← hAe]; exact Or.inr h
  have hS : va_S A s.heap s.heap [] := va_S.rf
  have hl := lv_entry ([.ref h0, .int p1]) (n := 4) (Nat.le_of_ble_eq_true rfl)
  rw [lg_entry_eq]
  generalize (lg_sl ([.ref h0, .int p1]) ++ List.replicate (4 - (lg_sl ([.ref h0, .int p1])).length) Slot.unset).toArray = ls at hl ⊢
  have hl : lv_has ls 4 [(0, .ref h0), (1, .int p1)] := hl
  refine lv_iconst (v := 0) hx hb dX0_bitsIn_0 (by decide) ?_
  refine lv_istore_n (lv' := [(2, .int 0), (0, .ref h0), (1, .int p1)]) hx hb dX0_bitsIn_1 rfl hl (by decide) rfl (fun ls hl => ?_)
  refine lv_iconst (v := 0) hx hb dX0_bitsIn_2 (by decide) ?_
  refine lv_istore_n (lv' := [(3, .int 0), (2, .int 0), (0, .ref h0), (1, .int p1)]) hx hb dX0_bitsIn_3 rfl hl (by decide) rfl (fun ls hl => ?_)
  refine lpX0_bitsIn_4 hx hb hml hown hts hA hK p1 12 0 0 σ rfl  _ _ hP hD hS ls (lv_sub hl [2, 3, 1, 0] rfl) (fun H locs hP hD hS ls hl => ?_)
  refine lv_iload_n hx hb dX0_bitsIn_24 rfl (lv_at hl 0 rfl) ?_
  have hqr : bitsL p1 12 0 0 = x_bits p1 := by simp only [x_bits]
  have hqs : σ = σ := rfl
  exact W.iret (v := bitsL p1 12 0 0) hx hb hr (fun t ht hW => ⟨⟨bitsL p1 12 0 0, σ, rfl, ⟨hqr, hqs⟩, by rw [ht]; exact hP, va_K.moved hW.alike hK, hD⟩, hS.F ht⟩) hS.2.2 dX0_bitsIn_25

set_option maxHeartbeats 4000000 in
theorem metX0_linkOf (l : Launch) (dC : Nat → ClassId) (dI : Nat → Nat → Nat) (h0 : Nat) (b : Nat → Nat) (cA : Nat → ClassId) (sz : Nat) (σ : XS) (j : Nat) (w : Nat) (hj : j < 12) (hw : w < 2) : MetI l yX0_linkOf (ws_ yX0_linkOf cX0_linkOf 3 (some .int)) ({ frames := 0, cells := 0, slots := 0, locals := 0 }) (dC, dI) (tX cA) (wX h0 b cA) h0 [.int (nI j), .int (nI w)] sz σ (x_link σ j w) σ := by
  refine Met.ofW (cc := cX0_linkOf) (maxL := 3) (ret := (some .int)) (by decide) rfl ?_
  intro p e s m args below meth c s₁ B hml hv
  obtain ⟨rfl, hsz, hP, hK, hD0⟩ := hv
  have hx := B.exec
  have hb := B.bytes
  have hr := B.returns
  have hts := atoms_spec (ws := (ws_ yX0_linkOf cX0_linkOf 3 (some .int))) B.pre
  have hts : ∀ w ∈ lw_all, w.before _ s = true := fun w h => hts w (List.mem_cons_of_mem _ h)
  have hown : s.vm.findClass RX0 = some m.cls := findClass_of_methodNamed B.named
  have hlocks := B.notSynchronized
  subst hsz
  have hD := hD0.self (sz := s.heap.size)
  generalize hAe : va_A (wX h0 b cA σ) s.heap.size = A at hD ⊢
  have hA : ∀ q : Nat, s.heap.size ≤ q → A q := fun q h => by rw [← hAe]; exact Or.inr h
  have hS : va_S A s.heap s.heap [] := va_S.rf
  have hl := lv_entry ([.ref h0, .int (nI j), .int (nI w)]) (n := 3) (Nat.le_of_ble_eq_true rfl)
  rw [lg_entry_eq]
  generalize (lg_sl ([.ref h0, .int (nI j), .int (nI w)]) ++ List.replicate (3 - (lg_sl ([.ref h0, .int (nI j), .int (nI w)])).length) Slot.unset).toArray = ls at hl ⊢
  have hl : lv_has ls 3 [(0, .ref h0), (1, .int (nI j)), (2, .int (nI w))] := hl
  refine lv_aload_n hx hb dX0_linkOf_0 rfl (lv_at hl 0 rfl) ?_
  refine va_get (D := (dC, dI)) (ci := 0) (v := .int (σ.1 11)) (C := RX0) (T := TX0) (N := 17) hx hb hts in_X0 hown hK hP 0 rfl rfl 11 (by decide) (hts _ q47) (fun _ h9 => h9) rfl dX0_linkOf_1 ?_
  refine lv_iload_n hx hb dX0_linkOf_4 rfl (lv_at hl 1 rfl) ?_
  refine lv_ishr hx hb dX0_linkOf_5 ?_
  refine lv_iconst (v := 1) hx hb dX0_linkOf_6 (by decide) ?_
  refine lv_iand hx hb dX0_linkOf_7 ?_
  refine lv_if_eq (tgt := 24) hx hb dX0_linkOf_8 (by decide) (fun c_8 => ?_) (fun c_8 => ?_)
  · refine lv_aload_n hx hb dX0_linkOf_24 rfl (lv_at hl 0 rfl) ?_
    refine va_get (D := (dC, dI)) (ci := 0) (v := .ref (b 1)) (C := RX0) (T := TX0) (N := 17) hx hb hts in_X0 hown hK hP 0 rfl rfl 1 (by decide) (hts _ q37) (fun _ h9 => h9) rfl dX0_linkOf_25 ?_
    refine lv_iconst (v := 2) hx hb dX0_linkOf_28 (by decide) ?_
    refine lv_iload_n hx hb dX0_linkOf_29 rfl (lv_at hl 1 rfl) ?_
    refine lv_imul hx hb dX0_linkOf_30 ?_
    refine lv_tope (e2m _) ?_
    refine lv_iload_n hx hb dX0_linkOf_31 rfl (lv_at hl 2 rfl) ?_
    refine lv_iadd hx hb dX0_linkOf_32 ?_
    refine lv_tope (nI_add _ _) ?_
    refine xa_bald (D := (dC, dI)) (f := σ.2 1) hx hb hK hP 2 1 rfl rfl (2 * j + w) rfl (by omega) (by decide) dX0_linkOf_33 ?_
    have hqr : σ.2 1 (2 * j + w) = x_link σ j w := by simp only [x_link, btI, if_pos c_8]
    have hqs : σ = σ := rfl
    exact W.iret (v := σ.2 1 (2 * j + w)) hx hb hr (fun t ht hW => ⟨⟨σ.2 1 (2 * j + w), σ, rfl, ⟨hqr, hqs⟩, by rw [ht]; exact hP, va_K.moved hW.alike hK, hD⟩, hS.F ht⟩) hS.2.2 dX0_linkOf_34
  · refine lv_aload_n hx hb dX0_linkOf_11 rfl (lv_at hl 0 rfl) ?_
    refine va_get (D := (dC, dI)) (ci := 0) (v := .ref (b 13)) (C := RX0) (T := TX0) (N := 17) hx hb hts in_X0 hown hK hP 0 rfl rfl 13 (by decide) (hts _ q49) (fun _ h9 => h9) rfl dX0_linkOf_12 ?_
    refine lv_iconst (v := 2) hx hb dX0_linkOf_15 (by decide) ?_
    refine lv_iload_n hx hb dX0_linkOf_16 rfl (lv_at hl 1 rfl) ?_
    refine lv_imul hx hb dX0_linkOf_17 ?_
    refine lv_tope (e2m _) ?_
    refine lv_iload_n hx hb dX0_linkOf_18 rfl (lv_at hl 2 rfl) ?_
    refine lv_iadd hx hb dX0_linkOf_19 ?_
    refine lv_tope (nI_add _ _) ?_
    refine xa_bald (D := (dC, dI)) (f := σ.2 13) hx hb hK hP 7 6 rfl rfl (2 * j + w) rfl (by omega) (by decide) dX0_linkOf_20 ?_
    refine lv_goto (tgt := 34) hx hb dX0_linkOf_21 (by decide) ?_
    have hqr : σ.2 13 (2 * j + w) = x_link σ j w := by simp only [x_link, btI, if_neg c_8]
    have hqs : σ = σ := rfl
    exact W.iret (v := σ.2 13 (2 * j + w)) hx hb hr (fun t ht hW => ⟨⟨σ.2 13 (2 * j + w), σ, rfl, ⟨hqr, hqs⟩, by rw [ht]; exact hP, va_K.moved hW.alike hK, hD⟩, hS.F ht⟩) hS.2.2 dX0_linkOf_34

set_option maxHeartbeats 4000000 in
theorem lpX0_closure_24 {p : Program} {l : Launch} {e : Env} {s : State} {m : MethodId} {below : List Frame} {meth : Method} {c : Code} {args : Array Value} {Q : State → Prop} {dC : Nat → ClassId} {dI : Nat → Nat → Nat} {A : Nat → Prop} {h0 : Nat} {b : Nat → Nat} {cA : Nat → ClassId} (hx : p.tables.exec = Jvm.exec) (hb : c.code = cX0_closure) (hml : c.maxLocals = 8) (hown : s.vm.findClass RX0 = some m.cls) (hts : ∀ w ∈ lw_all, w.before args s = true) (hA : ∀ q : Nat, s.heap.size ≤ q → A q) (hK : va_K (dC, dI) vwCl (tX cA) s) (bf : Int32) (r : Nat) :
    ∀ (n i : Nat) (t : Int32) (σ : XS), i + n = 12 → ∀ (H : Heap) (locs : List Loc), va_P (dC, dI) vwCl (wX h0 b cA σ) H → va_D A (wX h0 b cA σ) → va_S A s.heap H locs → ∀ (ls : Array Slot), lv_has ls 8 [(0, .ref h0), (2, .int t), (3, .int bf), (4, .int (nI r)), (5, .int (nI i))] →
    (∀ (H : Heap) (locs : List Loc), va_P (dC, dI) vwCl (wX h0 b cA σ) H → va_D A (wX h0 b cA σ) → va_S A s.heap H locs → ∀ (ls : Array Slot), lv_has ls 8 [(0, .ref h0), (2, .int (swpL (x_link σ) n i t)), (3, .int bf), (4, .int (nI r))] → W p l e (headSpec (ws_ yX0_closure cX0_closure 8 (some .int)) ({ frames := 1, cells := 0, slots := 0, locals := 22 })).room s m args below meth c H locs 0 0 Q (F0 m 91 ls [])) → W p l e (headSpec (ws_ yX0_closure cX0_closure 8 (some .int)) ({ frames := 1, cells := 0, slots := 0, locals := 22 })).room s m args below meth c H locs 0 0 Q (F0 m 24 ls []) := by
  intro n
  induction n with
  | zero =>
    intro i t σ hin H locs hP hD hS ls hl hk
    obtain rfl : i = 12 := by omega
    refine lv_iload hx hb dX0_closure_24 (lv_at hl 4 rfl) ?_
    refine lv_bipush (v := 12) hx hb dX0_closure_26 (by decide) ?_
    refine lv_icmp_ge (tgt := 91) hx hb dX0_closure_28 (by decide) (fun c_28 => ?_) (fun c_28 => ?_)
    · exact hk _ _ hP hD hS ls (lv_sub hl [0, 1, 2, 3] rfl)
    · exact absurd (by decide +kernel) c_28
  | succ n ih =>
    intro i t σ hin H locs hP hD hS ls hl hk
    have hi : i < 12 := by omega
    refine lv_iload hx hb dX0_closure_24 (lv_at hl 4 rfl) ?_
    refine lv_bipush (v := 12) hx hb dX0_closure_26 (by decide) ?_
    refine lv_icmp_ge (tgt := 91) hx hb dX0_closure_28 (by decide) (fun c_28 => ?_) (fun c_28 => ?_)
    · exact absurd c_28 (nI_ge (b := 12) (by omega) (by decide))
    · refine lv_iload_n hx hb dX0_closure_31 rfl (lv_at hl 1 rfl) ?_
      refine lv_iload hx hb dX0_closure_32 (lv_at hl 4 rfl) ?_
      refine lv_ishr hx hb dX0_closure_34 ?_
      refine lv_iconst (v := 1) hx hb dX0_closure_35 (by decide) ?_
      refine lv_iand hx hb dX0_closure_36 ?_
      refine lv_if_ne (tgt := 43) hx hb dX0_closure_37 (by decide) (fun c_37 => ?_) (fun c_37 => ?_)
      · refine lv_aload_n hx hb dX0_closure_43 rfl (lv_at hl 0 rfl) ?_
        refine lv_iload hx hb dX0_closure_44 (lv_at hl 4 rfl) ?_
        refine lv_iconst (v := 0) hx hb dX0_closure_46 (by decide) ?_
        refine ca_i (D := (dC, dI)) (wf := wX h0 b cA) hx hb hml hown hts (metX0_linkOf l dC dI h0 b cA _ σ i 0 (by omega) (by omega)) (cwV 2 hts (lw_V q106 q108 qs3 q26 q109) rfl rfl rfl (by decide +kernel) ⟨Nat.le_of_ble_eq_true rfl, Nat.le_of_ble_eq_true rfl⟩) hK hP hD hS hA 0 0 rfl rfl rfl hl.1 rfl (lv_room (Nat.le_of_ble_eq_true rfl)) dX0_closure_47 ⟨Nat.le_of_ble_eq_true rfl, Nat.le_of_ble_eq_true rfl⟩ (fun H locs hP hD hS => ?_)
        refine lv_istore (lv' := [(6, .int (x_link σ i 0)), (0, .ref h0), (2, .int t), (3, .int bf), (4, .int (nI r)), (5, .int (nI i))]) hx hb dX0_closure_50 hl (by decide) rfl (fun ls hl => ?_)
        refine lv_aload_n hx hb dX0_closure_52 rfl (lv_at hl 1 rfl) ?_
        refine lv_iload hx hb dX0_closure_53 (lv_at hl 5 rfl) ?_
        refine lv_iconst (v := 1) hx hb dX0_closure_55 (by decide) ?_
        refine ca_i (D := (dC, dI)) (wf := wX h0 b cA) hx hb hml hown hts (metX0_linkOf l dC dI h0 b cA _ σ i 1 (by omega) (by omega)) (cwV 2 hts (lw_V q106 q108 qs3 q26 q109) rfl rfl rfl (by decide +kernel) ⟨Nat.le_of_ble_eq_true rfl, Nat.le_of_ble_eq_true rfl⟩) hK hP hD hS hA 0 0 rfl rfl rfl hl.1 rfl (lv_room (Nat.le_of_ble_eq_true rfl)) dX0_closure_56 ⟨Nat.le_of_ble_eq_true rfl, Nat.le_of_ble_eq_true rfl⟩ (fun H locs hP hD hS => ?_)
        refine lv_istore (lv' := [(7, .int (x_link σ i 1)), (6, .int (x_link σ i 0)), (0, .ref h0), (2, .int t), (3, .int bf), (4, .int (nI r)), (5, .int (nI i))]) hx hb dX0_closure_59 hl (by decide) rfl (fun ls hl => ?_)
        refine lv_iload hx hb dX0_closure_61 (lv_at hl 1 rfl) ?_
        refine lv_if_lt (tgt := 73) hx hb dX0_closure_63 (by decide) (fun c_63 => ?_) (fun c_63 => ?_)
        · refine lv_iload hx hb dX0_closure_73 (lv_at hl 0 rfl) ?_
          refine lv_if_lt (tgt := 85) hx hb dX0_closure_75 (by decide) (fun c_75 => ?_) (fun c_75 => ?_)
          · refine lv_iinc (v := nI (i + 1)) (lv' := [(5, .int (nI (i + 1))), (7, .int (x_link σ i 1)), (6, .int (x_link σ i 0)), (0, .ref h0), (2, .int t), (3, .int bf), (4, .int (nI r))]) hx hb dX0_closure_85 hl (k := 6) rfl (nI_1 _) (by decide) rfl (fun ls hl => ?_)
            refine lv_goto (tgt := 24) hx hb dX0_closure_88 (by decide) ?_
            rw [show swpL (x_link σ) (n + 1) i t = swpL (x_link σ) n (i + 1) t from by simp only [swpL, orL, btI, if_neg c_28, if_neg c_37, if_pos c_63, if_pos c_75]] at hk
            exact ih (i + 1) t σ (by omega)  _ _ hP hD hS ls (lv_sub hl [3, 4, 5, 6, 0] rfl) hk
          · refine lv_iload_n hx hb dX0_closure_78 rfl (lv_at hl 3 rfl) ?_
            refine lv_iconst (v := 1) hx hb dX0_closure_79 (by decide) ?_
            refine lv_iload hx hb dX0_closure_80 (lv_at hl 0 rfl) ?_
            refine lv_ishl hx hb dX0_closure_82 ?_
            refine lv_ior hx hb dX0_closure_83 ?_
            refine lv_istore_n (lv' := [(2, .int (t ||| ((1 : Int32) <<< ((x_link σ i 1) &&& 31)))), (7, .int (x_link σ i 1)), (6, .int (x_link σ i 0)), (0, .ref h0), (3, .int bf), (4, .int (nI r)), (5, .int (nI i))]) hx hb dX0_closure_84 rfl hl (by decide) rfl (fun ls hl => ?_)
            refine lv_iinc (v := nI (i + 1)) (lv' := [(5, .int (nI (i + 1))), (2, .int (t ||| ((1 : Int32) <<< ((x_link σ i 1) &&& 31)))), (7, .int (x_link σ i 1)), (6, .int (x_link σ i 0)), (0, .ref h0), (3, .int bf), (4, .int (nI r))]) hx hb dX0_closure_85 hl (k := 6) rfl (nI_1 _) (by decide) rfl (fun ls hl => ?_)
            refine lv_goto (tgt := 24) hx hb dX0_closure_88 (by decide) ?_
            rw [show swpL (x_link σ) (n + 1) i t = swpL (x_link σ) n (i + 1) (t ||| ((1 : Int32) <<< ((x_link σ i 1) &&& 31))) from by simp only [swpL, orL, btI, if_neg c_28, if_neg c_37, if_pos c_63, if_neg c_75]] at hk
            exact ih (i + 1) (t ||| ((1 : Int32) <<< ((x_link σ i 1) &&& 31))) σ (by omega)  _ _ hP hD hS ls (lv_sub hl [4, 1, 5, 6, 0] rfl) hk
        · refine lv_iload_n hx hb dX0_closure_66 rfl (lv_at hl 3 rfl) ?_
          refine lv_iconst (v := 1) hx hb dX0_closure_67 (by decide) ?_
          refine lv_iload hx hb dX0_closure_68 (lv_at hl 1 rfl) ?_
          refine lv_ishl hx hb dX0_closure_70 ?_
          refine lv_ior hx hb dX0_closure_71 ?_
          refine lv_istore_n (lv' := [(2, .int (t ||| ((1 : Int32) <<< ((x_link σ i 0) &&& 31)))), (7, .int (x_link σ i 1)), (6, .int (x_link σ i 0)), (0, .ref h0), (3, .int bf), (4, .int (nI r)), (5, .int (nI i))]) hx hb dX0_closure_72 rfl hl (by decide) rfl (fun ls hl => ?_)
          refine lv_iload hx hb dX0_closure_73 (lv_at hl 1 rfl) ?_
          refine lv_if_lt (tgt := 85) hx hb dX0_closure_75 (by decide) (fun c_75 => ?_) (fun c_75 => ?_)
          · refine lv_iinc (v := nI (i + 1)) (lv' := [(5, .int (nI (i + 1))), (2, .int (t ||| ((1 : Int32) <<< ((x_link σ i 0) &&& 31)))), (7, .int (x_link σ i 1)), (6, .int (x_link σ i 0)), (0, .ref h0), (3, .int bf), (4, .int (nI r))]) hx hb dX0_closure_85 hl (k := 6) rfl (nI_1 _) (by decide) rfl (fun ls hl => ?_)
            refine lv_goto (tgt := 24) hx hb dX0_closure_88 (by decide) ?_
            rw [show swpL (x_link σ) (n + 1) i t = swpL (x_link σ) n (i + 1) (t ||| ((1 : Int32) <<< ((x_link σ i 0) &&& 31))) from by simp only [swpL, orL, btI, if_neg c_28, if_neg c_37, if_neg c_63, if_pos c_75]] at hk
            exact ih (i + 1) (t ||| ((1 : Int32) <<< ((x_link σ i 0) &&& 31))) σ (by omega)  _ _ hP hD hS ls (lv_sub hl [4, 1, 5, 6, 0] rfl) hk
          · refine lv_iload_n hx hb dX0_closure_78 rfl (lv_at hl 0 rfl) ?_
            refine lv_iconst (v := 1) hx hb dX0_closure_79 (by decide) ?_
            refine lv_iload hx hb dX0_closure_80 (lv_at hl 1 rfl) ?_
            refine lv_ishl hx hb dX0_closure_82 ?_
            refine lv_ior hx hb dX0_closure_83 ?_
            refine lv_istore_n (lv' := [(2, .int ((t ||| ((1 : Int32) <<< ((x_link σ i 0) &&& 31))) ||| ((1 : Int32) <<< ((x_link σ i 1) &&& 31)))), (7, .int (x_link σ i 1)), (6, .int (x_link σ i 0)), (0, .ref h0), (3, .int bf), (4, .int (nI r)), (5, .int (nI i))]) hx hb dX0_closure_84 rfl hl (by decide) rfl (fun ls hl => ?_)
            refine lv_iinc (v := nI (i + 1)) (lv' := [(5, .int (nI (i + 1))), (2, .int ((t ||| ((1 : Int32) <<< ((x_link σ i 0) &&& 31))) ||| ((1 : Int32) <<< ((x_link σ i 1) &&& 31)))), (7, .int (x_link σ i 1)), (6, .int (x_link σ i 0)), (0, .ref h0), (3, .int bf), (4, .int (nI r))]) hx hb dX0_closure_85 hl (k := 6) rfl (nI_1 _) (by decide) rfl (fun ls hl => ?_)
            refine lv_goto (tgt := 24) hx hb dX0_closure_88 (by decide) ?_
            rw [show swpL (x_link σ) (n + 1) i t = swpL (x_link σ) n (i + 1) ((t ||| ((1 : Int32) <<< ((x_link σ i 0) &&& 31))) ||| ((1 : Int32) <<< ((x_link σ i 1) &&& 31))) from by simp only [swpL, orL, btI, if_neg c_28, if_neg c_37, if_neg c_63, if_neg c_75]] at hk
            exact ih (i + 1) ((t ||| ((1 : Int32) <<< ((x_link σ i 0) &&& 31))) ||| ((1 : Int32) <<< ((x_link σ i 1) &&& 31))) σ (by omega)  _ _ hP hD hS ls (lv_sub hl [4, 1, 5, 6, 0] rfl) hk
      · refine lv_goto (tgt := 85) hx hb dX0_closure_40 (by decide) ?_
        refine lv_iinc (v := nI (i + 1)) (lv' := [(5, .int (nI (i + 1))), (0, .ref h0), (2, .int t), (3, .int bf), (4, .int (nI r))]) hx hb dX0_closure_85 hl (k := 4) rfl (nI_1 _) (by decide) rfl (fun ls hl => ?_)
        refine lv_goto (tgt := 24) hx hb dX0_closure_88 (by decide) ?_
        rw [show swpL (x_link σ) (n + 1) i t = swpL (x_link σ) n (i + 1) t from by simp only [swpL, orL, btI, if_neg c_28, if_pos c_37]] at hk
        exact ih (i + 1) t σ (by omega)  _ _ hP hD hS ls (lv_sub hl [1, 2, 3, 4, 0] rfl) hk

set_option maxHeartbeats 4000000 in
theorem lpX0_closure_7 {p : Program} {l : Launch} {e : Env} {s : State} {m : MethodId} {below : List Frame} {meth : Method} {c : Code} {args : Array Value} {Q : State → Prop} {dC : Nat → ClassId} {dI : Nat → Nat → Nat} {A : Nat → Prop} {h0 : Nat} {b : Nat → Nat} {cA : Nat → ClassId} (hx : p.tables.exec = Jvm.exec) (hb : c.code = cX0_closure) (hml : c.maxLocals = 8) (hown : s.vm.findClass RX0 = some m.cls) (hts : ∀ w ∈ lw_all, w.before args s = true) (hA : ∀ q : Nat, s.heap.size ≤ q → A q) (hK : va_K (dC, dI) vwCl (tX cA) s) :
    ∀ (n i : Nat) (t : Int32) (bf : Int32) (σ : XS), i + n = 13 → ∀ (H : Heap) (locs : List Loc), va_P (dC, dI) vwCl (wX h0 b cA σ) H → va_D A (wX h0 b cA σ) → va_S A s.heap H locs → ∀ (ls : Array Slot), lv_has ls 8 [(0, .ref h0), (2, .int t), (3, .int bf), (4, .int (nI i))] →
    (∀ (H : Heap) (locs : List Loc), va_P (dC, dI) vwCl (wX h0 b cA σ) H → va_D A (wX h0 b cA σ) → va_S A s.heap H locs → ∀ (ls : Array Slot), lv_has ls 8 [(2, .int (cloL (x_link σ) n t bf))] → W p l e (headSpec (ws_ yX0_closure cX0_closure 8 (some .int)) ({ frames := 1, cells := 0, slots := 0, locals := 22 })).room s m args below meth c H locs 0 0 Q (F0 m 97 ls [])) → W p l e (headSpec (ws_ yX0_closure cX0_closure 8 (some .int)) ({ frames := 1, cells := 0, slots := 0, locals := 22 })).room s m args below meth c H locs 0 0 Q (F0 m 7 ls []) := by
  intro n
  induction n with
  | zero =>
    intro i t bf σ hin H locs hP hD hS ls hl hk
    obtain rfl : i = 13 := by omega
    refine lv_iload hx hb dX0_closure_7 (lv_at hl 3 rfl) ?_
    refine lv_bipush (v := 13) hx hb dX0_closure_9 (by decide) ?_
    refine lv_icmp_ge (tgt := 97) hx hb dX0_closure_11 (by decide) (fun c_11 => ?_) (fun c_11 => ?_)
    · exact hk _ _ hP hD hS ls (lv_sub hl [1] rfl)
    · exact absurd (by decide +kernel) c_11
  | succ n ih =>
    intro i t bf σ hin H locs hP hD hS ls hl hk
    have hi : i < 13 := by omega
    refine lv_iload hx hb dX0_closure_7 (lv_at hl 3 rfl) ?_
    refine lv_bipush (v := 13) hx hb dX0_closure_9 (by decide) ?_
    refine lv_icmp_ge (tgt := 97) hx hb dX0_closure_11 (by decide) (fun c_11 => ?_) (fun c_11 => ?_)
    · exact absurd c_11 (nI_ge (b := 13) (by omega) (by decide))
    · refine lv_iload_n hx hb dX0_closure_14 rfl (lv_at hl 1 rfl) ?_
      refine lv_iload_n hx hb dX0_closure_15 rfl (lv_at hl 2 rfl) ?_
      refine lv_icmp_eq (tgt := 97) hx hb dX0_closure_16 (by decide) (fun c_16 => ?_) (fun c_16 => ?_)
      · rw [show cloL (x_link σ) (n + 1) t bf = t from by simp only [cloL, if_neg c_11, if_pos c_16]] at hk
        exact hk _ _ hP hD hS ls (lv_sub hl [1] rfl)
      · refine lv_iload_n hx hb dX0_closure_19 rfl (lv_at hl 1 rfl) ?_
        refine lv_istore_n (lv' := [(3, .int t), (0, .ref h0), (2, .int t), (4, .int (nI i))]) hx hb dX0_closure_20 rfl hl (by decide) rfl (fun ls hl => ?_)
        refine lv_iconst (v := 0) hx hb dX0_closure_21 (by decide) ?_
        refine lv_istore (lv' := [(5, .int 0), (3, .int t), (0, .ref h0), (2, .int t), (4, .int (nI i))]) hx hb dX0_closure_22 hl (by decide) rfl (fun ls hl => ?_)
        refine lpX0_closure_24 hx hb hml hown hts hA hK t i 12 0 t σ rfl  _ _ hP hD hS ls (lv_sub hl [2, 3, 1, 4, 0] rfl) (fun H locs hP hD hS ls hl => ?_)
        refine lv_iinc (v := nI (i + 1)) (lv' := [(4, .int (nI (i + 1))), (0, .ref h0), (2, .int (swpL (x_link σ) 12 0 t)), (3, .int t)]) hx hb dX0_closure_91 hl (k := 3) rfl (nI_1 _) (by decide) rfl (fun ls hl => ?_)
        refine lv_goto (tgt := 7) hx hb dX0_closure_94 (by decide) ?_
        rw [show cloL (x_link σ) (n + 1) t bf = cloL (x_link σ) n (swpL (x_link σ) 12 0 t) t from by simp only [cloL, if_neg c_11, if_neg c_16]] at hk
        exact ih (i + 1) (swpL (x_link σ) 12 0 t) t σ (by omega)  _ _ hP hD hS ls (lv_sub hl [1, 2, 3, 0] rfl) hk

set_option maxHeartbeats 4000000 in
theorem metX0_closure (l : Launch) (dC : Nat → ClassId) (dI : Nat → Nat → Nat) (h0 : Nat) (b : Nat → Nat) (cA : Nat → ClassId) (sz : Nat) (σ : XS) (p1 : Int32) : MetI l yX0_closure (ws_ yX0_closure cX0_closure 8 (some .int)) ({ frames := 1, cells := 0, slots := 0, locals := 22 }) (dC, dI) (tX cA) (wX h0 b cA) h0 [.int p1] sz σ (x_clo σ p1) σ := by
  refine Met.ofW (cc := cX0_closure) (maxL := 8) (ret := (some .int)) (by decide) rfl ?_
  intro p e s m args below meth c s₁ B hml hv
  obtain ⟨rfl, hsz, hP, hK, hD0⟩ := hv
  have hx := B.exec
  have hb := B.bytes
  have hr := B.returns
  have hts := atoms_spec (ws := (ws_ yX0_closure cX0_closure 8 (some .int))) B.pre
  have hts : ∀ w ∈ lw_all, w.before _ s = true := fun w h => hts w (List.mem_cons_of_mem _ h)
  have hown : s.vm.findClass RX0 = some m.cls := findClass_of_methodNamed B.named
  have hlocks := B.notSynchronized
  subst hsz
  have hD := hD0.self (sz := s.heap.size)
  generalize hAe : va_A (wX h0 b cA σ) s.heap.size = A at hD ⊢
  have hA : ∀ q : Nat, s.heap.size ≤ q → A q := fun q h => by rw [← hAe]; exact Or.inr h
  have hS : va_S A s.heap s.heap [] := va_S.rf
  have hl := lv_entry ([.ref h0, .int p1]) (n := 8) (Nat.le_of_ble_eq_true rfl)
  rw [lg_entry_eq]
  generalize (lg_sl ([.ref h0, .int p1]) ++ List.replicate (8 - (lg_sl ([.ref h0, .int p1])).length) Slot.unset).toArray = ls at hl ⊢
  have hl : lv_has ls 8 [(0, .ref h0), (1, .int p1)] := hl
  refine lv_iload_n hx hb dX0_closure_0 rfl (lv_at hl 1 rfl) ?_
  refine lv_istore_n (lv' := [(2, .int p1), (0, .ref h0), (1, .int p1)]) hx hb dX0_closure_1 rfl hl (by decide) rfl (fun ls hl => ?_)
  refine lv_iconst (v := 0) hx hb dX0_closure_2 (by decide) ?_
  refine lv_istore_n (lv' := [(3, .int 0), (2, .int p1), (0, .ref h0), (1, .int p1)]) hx hb dX0_closure_3 rfl hl (by decide) rfl (fun ls hl => ?_)
  refine lv_iconst (v := 0) hx hb dX0_closure_4 (by decide) ?_
  refine lv_istore (lv' := [(4, .int 0), (3, .int 0), (2, .int p1), (0, .ref h0), (1, .int p1)]) hx hb dX0_closure_5 hl (by decide) rfl (fun ls hl => ?_)
  refine lpX0_closure_7 hx hb hml hown hts hA hK  13 0 p1 0 σ rfl  _ _ hP hD hS ls (lv_sub hl [3, 2, 1, 0] rfl) (fun H locs hP hD hS ls hl => ?_)
  refine lv_iload_n hx hb dX0_closure_97 rfl (lv_at hl 0 rfl) ?_
  have hqr : cloL (x_link σ) 13 p1 0 = x_clo σ p1 := by simp only [x_clo]
  have hqs : σ = σ := rfl
  exact W.iret (v := cloL (x_link σ) 13 p1 0) hx hb hr (fun t ht hW => ⟨⟨cloL (x_link σ) 13 p1 0, σ, rfl, ⟨hqr, hqs⟩, by rw [ht]; exact hP, va_K.moved hW.alike hK, hD⟩, hS.F ht⟩) hS.2.2 dX0_closure_98

set_option maxHeartbeats 4000000 in
theorem lpX0_usedPlaces_20 {p : Program} {l : Launch} {e : Env} {s : State} {m : MethodId} {below : List Frame} {meth : Method} {c : Code} {args : Array Value} {Q : State → Prop} {dC : Nat → ClassId} {dI : Nat → Nat → Nat} {A : Nat → Prop} {h0 : Nat} {b : Nat → Nat} {cA : Nat → ClassId} (hx : p.tables.exec = Jvm.exec) (hb : c.code = cX0_usedPlaces) (hml : c.maxLocals = 3) (hown : s.vm.findClass RX0 = some m.cls) (hts : ∀ w ∈ lw_all, w.before args s = true) (hA : ∀ q : Nat, s.heap.size ≤ q → A q) (hK : va_K (dC, dI) vwCl (tX cA) s) :
    ∀ (n i : Nat) (t : Int32) (σ : XS), i + n = 4 → ∀ (H : Heap) (locs : List Loc), va_P (dC, dI) vwCl (wX h0 b cA σ) H → va_D A (wX h0 b cA σ) → va_S A s.heap H locs → ∀ (ls : Array Slot), lv_has ls 3 [(0, .ref h0), (1, .int t), (2, .int (nI i))] →
    (∀ (H : Heap) (locs : List Loc), va_P (dC, dI) vwCl (wX h0 b cA σ) H → va_D A (wX h0 b cA σ) → va_S A s.heap H locs → ∀ (ls : Array Slot), lv_has ls 3 [(0, .ref h0), (1, .int (usedL (σ.2 16) n i t))] → W p l e (headSpec (ws_ yX0_usedPlaces cX0_usedPlaces 3 (some .int)) ({ frames := 2, cells := 0, slots := 0, locals := 49 })).room s m args below meth c H locs 0 0 Q (F0 m 51 ls [])) → W p l e (headSpec (ws_ yX0_usedPlaces cX0_usedPlaces 3 (some .int)) ({ frames := 2, cells := 0, slots := 0, locals := 49 })).room s m args below meth c H locs 0 0 Q (F0 m 20 ls []) := by
  intro n
  induction n with
  | zero =>
    intro i t σ hin H locs hP hD hS ls hl hk
    obtain rfl : i = 4 := by omega
    refine lv_iload_n hx hb dX0_usedPlaces_20 rfl (lv_at hl 2 rfl) ?_
    refine lv_iconst (v := 4) hx hb dX0_usedPlaces_21 (by decide) ?_
    refine lv_icmp_ge (tgt := 51) hx hb dX0_usedPlaces_22 (by decide) (fun c_22 => ?_) (fun c_22 => ?_)
    · exact hk _ _ hP hD hS ls (lv_sub hl [0, 1] rfl)
    · exact absurd (by decide +kernel) c_22
  | succ n ih =>
    intro i t σ hin H locs hP hD hS ls hl hk
    have hi : i < 4 := by omega
    refine lv_iload_n hx hb dX0_usedPlaces_20 rfl (lv_at hl 2 rfl) ?_
    refine lv_iconst (v := 4) hx hb dX0_usedPlaces_21 (by decide) ?_
    refine lv_icmp_ge (tgt := 51) hx hb dX0_usedPlaces_22 (by decide) (fun c_22 => ?_) (fun c_22 => ?_)
    · exact absurd c_22 (nI_ge (b := 4) (by omega) (by decide))
    · refine lv_aload_n hx hb dX0_usedPlaces_25 rfl (lv_at hl 0 rfl) ?_
      refine va_get (D := (dC, dI)) (ci := 0) (v := .ref (b 16)) (C := RX0) (T := TX0) (N := 17) hx hb hts in_X0 hown hK hP 0 rfl rfl 16 (by decide) (hts _ q52) (fun _ h9 => h9) rfl dX0_usedPlaces_26 ?_
      refine lv_iload_n hx hb dX0_usedPlaces_29 rfl (lv_at hl 2 rfl) ?_
      refine xa_bald (D := (dC, dI)) (f := σ.2 16) hx hb hK hP 8 7 rfl rfl i rfl (by omega) (by decide) dX0_usedPlaces_30 ?_
      refine lv_if_lt (tgt := 45) hx hb dX0_usedPlaces_31 (by decide) (fun c_31 => ?_) (fun c_31 => ?_)
      · refine lv_iinc (v := nI (i + 1)) (lv' := [(2, .int (nI (i + 1))), (0, .ref h0), (1, .int t)]) hx hb dX0_usedPlaces_45 hl (k := 2) rfl (nI_1 _) (by decide) rfl (fun ls hl => ?_)
        refine lv_goto (tgt := 20) hx hb dX0_usedPlaces_48 (by decide) ?_
        rw [show usedL (σ.2 16) (n + 1) i t = usedL (σ.2 16) n (i + 1) t from by simp only [usedL, orL, if_neg c_22, if_pos c_31]] at hk
        exact ih (i + 1) t σ (by omega)  _ _ hP hD hS ls (lv_sub hl [1, 2, 0] rfl) hk
      · refine lv_iload_n hx hb dX0_usedPlaces_34 rfl (lv_at hl 1 rfl) ?_
        refine lv_iconst (v := 1) hx hb dX0_usedPlaces_35 (by decide) ?_
        refine lv_aload_n hx hb dX0_usedPlaces_36 rfl (lv_at hl 0 rfl) ?_
        refine va_get (D := (dC, dI)) (ci := 0) (v := .ref (b 16)) (C := RX0) (T := TX0) (N := 17) hx hb hts in_X0 hown hK hP 0 rfl rfl 16 (by decide) (hts _ q52) (fun _ h9 => h9) rfl dX0_usedPlaces_37 ?_
        refine lv_iload_n hx hb dX0_usedPlaces_40 rfl (lv_at hl 2 rfl) ?_
        refine xa_bald (D := (dC, dI)) (f := σ.2 16) hx hb hK hP 8 7 rfl rfl i rfl (by omega) (by decide) dX0_usedPlaces_41 ?_
        refine lv_ishl hx hb dX0_usedPlaces_42 ?_
        refine lv_ior hx hb dX0_usedPlaces_43 ?_
        refine lv_istore_n (lv' := [(1, .int (t ||| ((1 : Int32) <<< ((σ.2 16 i) &&& 31)))), (0, .ref h0), (2, .int (nI i))]) hx hb dX0_usedPlaces_44 rfl hl (by decide) rfl (fun ls hl => ?_)
        refine lv_iinc (v := nI (i + 1)) (lv' := [(2, .int (nI (i + 1))), (1, .int (t ||| ((1 : Int32) <<< ((σ.2 16 i) &&& 31)))), (0, .ref h0)]) hx hb dX0_usedPlaces_45 hl (k := 2) rfl (nI_1 _) (by decide) rfl (fun ls hl => ?_)
        refine lv_goto (tgt := 20) hx hb dX0_usedPlaces_48 (by decide) ?_
        rw [show usedL (σ.2 16) (n + 1) i t = usedL (σ.2 16) n (i + 1) (t ||| ((1 : Int32) <<< ((σ.2 16 i) &&& 31))) from by simp only [usedL, orL, if_neg c_22, if_neg c_31]] at hk
        exact ih (i + 1) (t ||| ((1 : Int32) <<< ((σ.2 16 i) &&& 31))) σ (by omega)  _ _ hP hD hS ls (lv_sub hl [2, 1, 0] rfl) hk

set_option maxHeartbeats 4000000 in
theorem metX0_usedPlaces (l : Launch) (dC : Nat → ClassId) (dI : Nat → Nat → Nat) (h0 : Nat) (b : Nat → Nat) (cA : Nat → ClassId) (sz : Nat) (σ : XS) : MetI l yX0_usedPlaces (ws_ yX0_usedPlaces cX0_usedPlaces 3 (some .int)) ({ frames := 2, cells := 0, slots := 0, locals := 49 }) (dC, dI) (tX cA) (wX h0 b cA) h0 [] sz σ (x_used σ) σ := by
  refine Met.ofW (cc := cX0_usedPlaces) (maxL := 3) (ret := (some .int)) (by decide) rfl ?_
  intro p e s m args below meth c s₁ B hml hv
  obtain ⟨rfl, hsz, hP, hK, hD0⟩ := hv
  have hx := B.exec
  have hb := B.bytes
  have hr := B.returns
  have hts := atoms_spec (ws := (ws_ yX0_usedPlaces cX0_usedPlaces 3 (some .int))) B.pre
  have hts : ∀ w ∈ lw_all, w.before _ s = true := fun w h => hts w (List.mem_cons_of_mem _ h)
  have hown : s.vm.findClass RX0 = some m.cls := findClass_of_methodNamed B.named
  have hlocks := B.notSynchronized
  subst hsz
  have hD := hD0.self (sz := s.heap.size)
  generalize hAe : va_A (wX h0 b cA σ) s.heap.size = A at hD ⊢
  have hA : ∀ q : Nat, s.heap.size ≤ q → A q := fun q h => by rw [← hAe]; exact Or.inr h
  have hS : va_S A s.heap s.heap [] := va_S.rf
  have hl := lv_entry ([.ref h0]) (n := 3) (Nat.le_of_ble_eq_true rfl)
  rw [lg_entry_eq]
  generalize (lg_sl ([.ref h0]) ++ List.replicate (3 - (lg_sl ([.ref h0])).length) Slot.unset).toArray = ls at hl ⊢
  have hl : lv_has ls 3 [(0, .ref h0)] := hl
  refine lv_aload_n hx hb dX0_usedPlaces_0 rfl (lv_at hl 0 rfl) ?_
  refine va_get (D := (dC, dI)) (ci := 0) (v := .int (σ.1 15)) (C := RX0) (T := TX0) (N := 17) hx hb hts in_X0 hown hK hP 0 rfl rfl 15 (by decide) (hts _ q51) (fun _ h9 => h9) rfl dX0_usedPlaces_1 ?_
  refine lv_if_ge (tgt := 11) hx hb dX0_usedPlaces_4 (by decide) (fun c_4 => ?_) (fun c_4 => ?_)
  · refine lv_iconst (v := 1) hx hb dX0_usedPlaces_11 (by decide) ?_
    refine lv_aload_n hx hb dX0_usedPlaces_12 rfl (lv_at hl 0 rfl) ?_
    refine va_get (D := (dC, dI)) (ci := 0) (v := .int (σ.1 15)) (C := RX0) (T := TX0) (N := 17) hx hb hts in_X0 hown hK hP 0 rfl rfl 15 (by decide) (hts _ q51) (fun _ h9 => h9) rfl dX0_usedPlaces_13 ?_
    refine lv_ishl hx hb dX0_usedPlaces_16 ?_
    refine lv_tope (y := bitO (σ.1 15)) (by simp only [bitO, if_pos c_4]) ?_
    refine lv_istore_n (lv' := [(1, .int (bitO (σ.1 15))), (0, .ref h0)]) hx hb dX0_usedPlaces_17 rfl hl (by decide) rfl (fun ls hl => ?_)
    refine lv_iconst (v := 0) hx hb dX0_usedPlaces_18 (by decide) ?_
    refine lv_istore_n (lv' := [(2, .int 0), (1, .int (bitO (σ.1 15))), (0, .ref h0)]) hx hb dX0_usedPlaces_19 rfl hl (by decide) rfl (fun ls hl => ?_)
    refine lpX0_usedPlaces_20 hx hb hml hown hts hA hK  4 0 (bitO (σ.1 15)) σ rfl  _ _ hP hD hS ls (lv_sub hl [2, 1, 0] rfl) (fun H locs hP hD hS ls hl => ?_)
    refine lv_aload_n hx hb dX0_usedPlaces_51 rfl (lv_at hl 0 rfl) ?_
    refine lv_iload_n hx hb dX0_usedPlaces_52 rfl (lv_at hl 1 rfl) ?_
    refine ca_i (D := (dC, dI)) (wf := wX h0 b cA) hx hb hml hown hts (metX0_closure l dC dI h0 b cA _ σ (usedL (σ.2 16) 4 0 (bitO (σ.1 15)))) (cwV 1 hts (lw_V q102 q104 qs2 q26 q105) rfl rfl rfl (by decide +kernel) ⟨Nat.le_of_ble_eq_true rfl, Nat.le_of_ble_eq_true rfl⟩) hK hP hD hS hA 0 0 rfl rfl rfl hl.1 rfl (lv_room (Nat.le_of_ble_eq_true rfl)) dX0_usedPlaces_53 ⟨Nat.le_of_ble_eq_true rfl, Nat.le_of_ble_eq_true rfl⟩ (fun H locs hP hD hS => ?_)
    refine lv_istore_n (lv' := [(2, .int (x_clo σ (usedL (σ.2 16) 4 0 (bitO (σ.1 15))))), (0, .ref h0), (1, .int (usedL (σ.2 16) 4 0 (bitO (σ.1 15))))]) hx hb dX0_usedPlaces_56 rfl hl (by decide) rfl (fun ls hl => ?_)
    refine lv_iload_n hx hb dX0_usedPlaces_57 rfl (lv_at hl 0 rfl) ?_
    refine lv_aload_n hx hb dX0_usedPlaces_58 rfl (lv_at hl 1 rfl) ?_
    refine va_get (D := (dC, dI)) (ci := 0) (v := .int (σ.1 3)) (C := RX0) (T := TX0) (N := 17) hx hb hts in_X0 hown hK hP 0 rfl rfl 3 (by decide) (hts _ q39) (fun _ h9 => h9) rfl dX0_usedPlaces_59 ?_
    refine lv_ior hx hb dX0_usedPlaces_62 ?_
    have hqr : (x_clo σ (usedL (σ.2 16) 4 0 (bitO (σ.1 15)))) ||| (σ.1 3) = x_used σ := by simp only [x_used, if_pos c_4]
    have hqs : σ = σ := rfl
    exact W.iret (v := (x_clo σ (usedL (σ.2 16) 4 0 (bitO (σ.1 15)))) ||| (σ.1 3)) hx hb hr (fun t ht hW => ⟨⟨(x_clo σ (usedL (σ.2 16) 4 0 (bitO (σ.1 15)))) ||| (σ.1 3), σ, rfl, ⟨hqr, hqs⟩, by rw [ht]; exact hP, va_K.moved hW.alike hK, hD⟩, hS.F ht⟩) hS.2.2 dX0_usedPlaces_63
  · refine lv_iconst (v := 0) hx hb dX0_usedPlaces_7 (by decide) ?_
    refine lv_goto (tgt := 17) hx hb dX0_usedPlaces_8 (by decide) ?_
    refine lv_tope (y := bitO (σ.1 15)) (by simp only [bitO, if_neg c_4]) ?_
    refine lv_istore_n (lv' := [(1, .int (bitO (σ.1 15))), (0, .ref h0)]) hx hb dX0_usedPlaces_17 rfl hl (by decide) rfl (fun ls hl => ?_)
    refine lv_iconst (v := 0) hx hb dX0_usedPlaces_18 (by decide) ?_
    refine lv_istore_n (lv' := [(2, .int 0), (1, .int (bitO (σ.1 15))), (0, .ref h0)]) hx hb dX0_usedPlaces_19 rfl hl (by decide) rfl (fun ls hl => ?_)
    refine lpX0_usedPlaces_20 hx hb hml hown hts hA hK  4 0 (bitO (σ.1 15)) σ rfl  _ _ hP hD hS ls (lv_sub hl [2, 1, 0] rfl) (fun H locs hP hD hS ls hl => ?_)
    refine lv_aload_n hx hb dX0_usedPlaces_51 rfl (lv_at hl 0 rfl) ?_
    refine lv_iload_n hx hb dX0_usedPlaces_52 rfl (lv_at hl 1 rfl) ?_
    refine ca_i (D := (dC, dI)) (wf := wX h0 b cA) hx hb hml hown hts (metX0_closure l dC dI h0 b cA _ σ (usedL (σ.2 16) 4 0 (bitO (σ.1 15)))) (cwV 1 hts (lw_V q102 q104 qs2 q26 q105) rfl rfl rfl (by decide +kernel) ⟨Nat.le_of_ble_eq_true rfl, Nat.le_of_ble_eq_true rfl⟩) hK hP hD hS hA 0 0 rfl rfl rfl hl.1 rfl (lv_room (Nat.le_of_ble_eq_true rfl)) dX0_usedPlaces_53 ⟨Nat.le_of_ble_eq_true rfl, Nat.le_of_ble_eq_true rfl⟩ (fun H locs hP hD hS => ?_)
    refine lv_istore_n (lv' := [(2, .int (x_clo σ (usedL (σ.2 16) 4 0 (bitO (σ.1 15))))), (0, .ref h0), (1, .int (usedL (σ.2 16) 4 0 (bitO (σ.1 15))))]) hx hb dX0_usedPlaces_56 rfl hl (by decide) rfl (fun ls hl => ?_)
    refine lv_iload_n hx hb dX0_usedPlaces_57 rfl (lv_at hl 0 rfl) ?_
    refine lv_aload_n hx hb dX0_usedPlaces_58 rfl (lv_at hl 1 rfl) ?_
    refine va_get (D := (dC, dI)) (ci := 0) (v := .int (σ.1 3)) (C := RX0) (T := TX0) (N := 17) hx hb hts in_X0 hown hK hP 0 rfl rfl 3 (by decide) (hts _ q39) (fun _ h9 => h9) rfl dX0_usedPlaces_59 ?_
    refine lv_ior hx hb dX0_usedPlaces_62 ?_
    have hqr : (x_clo σ (usedL (σ.2 16) 4 0 (bitO (σ.1 15)))) ||| (σ.1 3) = x_used σ := by simp only [x_used, if_neg c_4]
    have hqs : σ = σ := rfl
    exact W.iret (v := (x_clo σ (usedL (σ.2 16) 4 0 (bitO (σ.1 15)))) ||| (σ.1 3)) hx hb hr (fun t ht hW => ⟨⟨(x_clo σ (usedL (σ.2 16) 4 0 (bitO (σ.1 15)))) ||| (σ.1 3), σ, rfl, ⟨hqr, hqs⟩, by rw [ht]; exact hP, va_K.moved hW.alike hK, hD⟩, hS.F ht⟩) hS.2.2 dX0_usedPlaces_63

set_option maxHeartbeats 4000000 in
theorem lpX0_freePlace_27 {p : Program} {l : Launch} {e : Env} {s : State} {m : MethodId} {below : List Frame} {meth : Method} {c : Code} {args : Array Value} {Q : State → Prop} {dC : Nat → ClassId} {dI : Nat → Nat → Nat} {A : Nat → Prop} {h0 : Nat} {b : Nat → Nat} {cA : Nat → ClassId} (hx : p.tables.exec = Jvm.exec) (hb : c.code = cX0_freePlace) (hml : c.maxLocals = 3) (hown : s.vm.findClass RX0 = some m.cls) (hts : ∀ w ∈ lw_all, w.before args s = true) (hA : ∀ q : Nat, s.heap.size ≤ q → A q) (hK : va_K (dC, dI) vwCl (tX cA) s) :
    ∀ (n i : Nat) (σ : XS), i + n = 11 → ∀ (H : Heap) (locs : List Loc), va_P (dC, dI) vwCl (wX h0 b cA σ) H → va_D A (wX h0 b cA σ) → va_S A s.heap H locs → ∀ (ls : Array Slot), lv_has ls 3 [(0, .ref h0), (2, .int (nI i))] →
    (∀ (H : Heap) (locs : List Loc), va_P (dC, dI) vwCl (wX h0 b cA σ) H → va_D A (wX h0 b cA σ) → va_S A s.heap H locs → ∀ (ls : Array Slot), lv_has ls 3 [(2, .int (nI (freeL (σ.1 14) n i)))] → W p l e (headSpec (ws_ yX0_freePlace cX0_freePlace 3 (some .int)) ({ frames := 0, cells := 0, slots := 0, locals := 0 })).room s m args below meth c H locs 0 0 Q (F0 m 50 ls [])) → W p l e (headSpec (ws_ yX0_freePlace cX0_freePlace 3 (some .int)) ({ frames := 0, cells := 0, slots := 0, locals := 0 })).room s m args below meth c H locs 0 0 Q (F0 m 27 ls []) := by
  intro n
  induction n with
  | zero =>
    intro i σ hin H locs hP hD hS ls hl hk
    obtain rfl : i = 11 := by omega
    refine lv_iload_n hx hb dX0_freePlace_27 rfl (lv_at hl 1 rfl) ?_
    refine lv_bipush (v := 11) hx hb dX0_freePlace_28 (by decide) ?_
    refine lv_icmp_ge (tgt := 50) hx hb dX0_freePlace_30 (by decide) (fun c_30 => ?_) (fun c_30 => ?_)
    · exact hk _ _ hP hD hS ls (lv_sub hl [1] rfl)
    · exact absurd (by decide +kernel) c_30
  | succ n ih =>
    intro i σ hin H locs hP hD hS ls hl hk
    have hi : i < 11 := by omega
    refine lv_iload_n hx hb dX0_freePlace_27 rfl (lv_at hl 1 rfl) ?_
    refine lv_bipush (v := 11) hx hb dX0_freePlace_28 (by decide) ?_
    refine lv_icmp_ge (tgt := 50) hx hb dX0_freePlace_30 (by decide) (fun c_30 => ?_) (fun c_30 => ?_)
    · exact absurd c_30 (nI_ge (b := 11) (by omega) (by decide))
    · refine lv_aload_n hx hb dX0_freePlace_33 rfl (lv_at hl 0 rfl) ?_
      refine va_get (D := (dC, dI)) (ci := 0) (v := .int (σ.1 14)) (C := RX0) (T := TX0) (N := 17) hx hb hts in_X0 hown hK hP 0 rfl rfl 14 (by decide) (hts _ q50) (fun _ h9 => h9) rfl dX0_freePlace_34 ?_
      refine lv_iload_n hx hb dX0_freePlace_37 rfl (lv_at hl 1 rfl) ?_
      refine lv_ishr hx hb dX0_freePlace_38 ?_
      refine lv_iconst (v := 1) hx hb dX0_freePlace_39 (by decide) ?_
      refine lv_iand hx hb dX0_freePlace_40 ?_
      refine lv_if_eq (tgt := 50) hx hb dX0_freePlace_41 (by decide) (fun c_41 => ?_) (fun c_41 => ?_)
      · rw [show nI (freeL (σ.1 14) (n + 1) i) = nI i from by simp only [freeL, btI, if_neg c_30, if_pos c_41]] at hk
        exact hk _ _ hP hD hS ls (lv_sub hl [1] rfl)
      · refine lv_iinc (v := nI (i + 1)) (lv' := [(2, .int (nI (i + 1))), (0, .ref h0)]) hx hb dX0_freePlace_44 hl (k := 1) rfl (nI_1 _) (by decide) rfl (fun ls hl => ?_)
        refine lv_goto (tgt := 27) hx hb dX0_freePlace_47 (by decide) ?_
        rw [show nI (freeL (σ.1 14) (n + 1) i) = nI (freeL (σ.1 14) n (i + 1)) from by simp only [freeL, btI, if_neg c_30, if_neg c_41]] at hk
        exact ih (i + 1)  σ (by omega)  _ _ hP hD hS ls (lv_sub hl [1, 0] rfl) hk

set_option maxHeartbeats 4000000 in
theorem metX0_freePlace (l : Launch) (dC : Nat → ClassId) (dI : Nat → Nat → Nat) (h0 : Nat) (b : Nat → Nat) (cA : Nat → ClassId) (sz : Nat) (σ : XS) (p1 : Int32) : MetI l yX0_freePlace (ws_ yX0_freePlace cX0_freePlace 3 (some .int)) ({ frames := 0, cells := 0, slots := 0, locals := 0 }) (dC, dI) (tX cA) (wX h0 b cA) h0 [.int p1] sz σ (nI (x_free σ p1)) (x_fp1 σ p1) := by
  refine Met.ofW (cc := cX0_freePlace) (maxL := 3) (ret := (some .int)) (by decide) rfl ?_
  intro p e s m args below meth c s₁ B hml hv
  obtain ⟨rfl, hsz, hP, hK, hD0⟩ := hv
  have hx := B.exec
  have hb := B.bytes
  have hr := B.returns
  have hts := atoms_spec (ws := (ws_ yX0_freePlace cX0_freePlace 3 (some .int))) B.pre
  have hts : ∀ w ∈ lw_all, w.before _ s = true := fun w h => hts w (List.mem_cons_of_mem _ h)
  have hown : s.vm.findClass RX0 = some m.cls := findClass_of_methodNamed B.named
  have hlocks := B.notSynchronized
  subst hsz
  have hD := hD0.self (sz := s.heap.size)
  generalize hAe : va_A (wX h0 b cA σ) s.heap.size = A at hD ⊢
  have hA : ∀ q : Nat, s.heap.size ≤ q → A q := fun q h => by rw [← hAe]; exact Or.inr h
  have hS : va_S A s.heap s.heap [] := va_S.rf
  have hl := lv_entry ([.ref h0, .int p1]) (n := 3) (Nat.le_of_ble_eq_true rfl)
  rw [lg_entry_eq]
  generalize (lg_sl ([.ref h0, .int p1]) ++ List.replicate (3 - (lg_sl ([.ref h0, .int p1])).length) Slot.unset).toArray = ls at hl ⊢
  have hl : lv_has ls 3 [(0, .ref h0), (1, .int p1)] := hl
  refine lv_aload_n hx hb dX0_freePlace_0 rfl (lv_at hl 0 rfl) ?_
  refine va_get (D := (dC, dI)) (ci := 0) (v := .int (σ.1 14)) (C := RX0) (T := TX0) (N := 17) hx hb hts in_X0 hown hK hP 0 rfl rfl 14 (by decide) (hts _ q50) (fun _ h9 => h9) rfl dX0_freePlace_1 ?_
  refine lv_sipush (v := 4095) hx hb dX0_freePlace_4 (by decide) ?_
  refine lv_icmp_ne (tgt := 25) hx hb dX0_freePlace_7 (by decide) (fun c_7 => ?_) (fun c_7 => ?_)
  · refine lv_iconst (v := 0) hx hb dX0_freePlace_25 (by decide) ?_
    refine lv_istore_n (lv' := [(2, .int 0), (0, .ref h0), (1, .int p1)]) hx hb dX0_freePlace_26 rfl hl (by decide) rfl (fun ls hl => ?_)
    refine lpX0_freePlace_27 hx hb hml hown hts hA hK  11 0  σ rfl  _ _ hP hD hS ls (lv_sub hl [1, 0] rfl) (fun H locs hP hD hS ls hl => ?_)
    refine lv_iload_n hx hb dX0_freePlace_50 rfl (lv_at hl 0 rfl) ?_
    have hqr : nI (freeL (σ.1 14) 11 0) = nI (x_free σ p1) := by simp only [x_free, x_fp1, if_neg c_7]
    have hqs : σ = x_fp1 σ p1 := by simp only [x_free, x_fp1, if_neg c_7]
    exact W.iret (v := nI (freeL (σ.1 14) 11 0)) hx hb hr (fun t ht hW => ⟨⟨nI (freeL (σ.1 14) 11 0), σ, rfl, ⟨hqr, hqs⟩, by rw [ht]; exact hP, va_K.moved hW.alike hK, hD⟩, hS.F ht⟩) hS.2.2 dX0_freePlace_51
  · refine lv_aload_n hx hb dX0_freePlace_10 rfl (lv_at hl 0 rfl) ?_
    refine lv_iload_n hx hb dX0_freePlace_11 rfl (lv_at hl 1 rfl) ?_
    refine va_put (D := (dC, dI)) (ci := 0) (v := .int p1) (ty := .int) (C := RX0) (T := TX0) (N := 17) hx hb hts in_X0 tyX0 tyX0_ok nmX0 hown hK hP hD hS 0 rfl rfl 14 (by decide) (hts _ q50) (fun _ h9 => h9) rfl (by decide +kernel) rfl rfl (Nat.le_of_ble_eq_true rfl) dX0_freePlace_12 (fun H locs hP hD hS => ?_)
    have hP : va_P (dC, dI) vwCl (wX h0 b cA (setF σ 14 p1)) H := hP
    have hD : va_D A (wX h0 b cA (setF σ 14 p1)) := hD
    refine lv_aload_n hx hb dX0_freePlace_15 rfl (lv_at hl 0 rfl) ?_
    refine lv_dup hx hb dX0_freePlace_16 rfl ?_
    refine va_get (D := (dC, dI)) (ci := 0) (v := .int (σ.1 11)) (C := RX0) (T := TX0) (N := 17) hx hb hts in_X0 hown hK hP 0 rfl rfl 11 (by decide) (hts _ q47) (fun _ h9 => h9) rfl dX0_freePlace_17 ?_
    refine lv_iload_n hx hb dX0_freePlace_20 rfl (lv_at hl 1 rfl) ?_
    refine lv_iand hx hb dX0_freePlace_21 ?_
    refine va_put (D := (dC, dI)) (ci := 0) (v := .int ((σ.1 11) &&& p1)) (ty := .int) (C := RX0) (T := TX0) (N := 17) hx hb hts in_X0 tyX0 tyX0_ok nmX0 hown hK hP hD hS 0 rfl rfl 11 (by decide) (hts _ q47) (fun _ h9 => h9) rfl (by decide +kernel) rfl rfl (Nat.le_of_ble_eq_true rfl) dX0_freePlace_22 (fun H locs hP hD hS => ?_)
    have hP : va_P (dC, dI) vwCl (wX h0 b cA (setF (setF σ 14 p1) 11 ((σ.1 11) &&& p1))) H := hP
    have hD : va_D A (wX h0 b cA (setF (setF σ 14 p1) 11 ((σ.1 11) &&& p1))) := hD
    refine lv_iconst (v := 0) hx hb dX0_freePlace_25 (by decide) ?_
    refine lv_istore_n (lv' := [(2, .int 0), (0, .ref h0), (1, .int p1)]) hx hb dX0_freePlace_26 rfl hl (by decide) rfl (fun ls hl => ?_)
    refine lpX0_freePlace_27 hx hb hml hown hts hA hK  11 0  (setF (setF σ 14 p1) 11 ((σ.1 11) &&& p1)) rfl  _ _ hP hD hS ls (lv_sub hl [1, 0] rfl) (fun H locs hP hD hS ls hl => ?_)
    refine lv_iload_n hx hb dX0_freePlace_50 rfl (lv_at hl 0 rfl) ?_
    have hqr : nI (freeL ((setF (setF σ 14 p1) 11 ((σ.1 11) &&& p1)).1 14) 11 0) = nI (x_free σ p1) := by simp only [x_free, x_fp1, if_pos c_7]
    have hqs : setF (setF σ 14 p1) 11 ((σ.1 11) &&& p1) = x_fp1 σ p1 := by simp only [x_free, x_fp1, if_pos c_7]
    exact W.iret (v := nI (freeL ((setF (setF σ 14 p1) 11 ((σ.1 11) &&& p1)).1 14) 11 0)) hx hb hr (fun t ht hW => ⟨⟨nI (freeL ((setF (setF σ 14 p1) 11 ((σ.1 11) &&& p1)).1 14) 11 0), (setF (setF σ 14 p1) 11 ((σ.1 11) &&& p1)), rfl, ⟨hqr, hqs⟩, by rw [ht]; exact hP, va_K.moved hW.alike hK, hD⟩, hS.F ht⟩) hS.2.2 dX0_freePlace_51
end
section
set_option maxRecDepth 100000
set_option maxHeartbeats 4000000 in
theorem metX0_bringIn (l : Launch) (dC : Nat → ClassId) (dI : Nat → Nat → Nat) (h0 : Nat) (b : Nat → Nat) (cA : Nat → ClassId) (sz : Nat) (σ : XS) (j : Nat) (hj : j < 12) (hok : okX σ) : MetV l yX0_bringIn (ws_ yX0_bringIn cX0_bringIn 2 none) ({ frames := 0, cells := 0, slots := 0, locals := 0 }) (dC, dI) (tX cA) (wX h0 b cA) h0 [.int (nI j)] sz σ (x_bring σ j) := by
  refine Met.ofW (cc := cX0_bringIn) (maxL := 2) (ret := none) (by decide) rfl ?_
  intro p e s m args below meth c s₁ B hml hv
  obtain ⟨rfl, hsz, hP, hK, hD0⟩ := hv
  have hx := B.exec
  have hb := B.bytes
  have hr := B.returns
  have hts := atoms_spec (ws := (ws_ yX0_bringIn cX0_bringIn 2 none)) B.pre
  have hts : ∀ w ∈ lw_all, w.before _ s = true := fun w h => hts w (List.mem_cons_of_mem _ h)
  have hown : s.vm.findClass RX0 = some m.cls := findClass_of_methodNamed B.named
  have hlocks := B.notSynchronized
  subst hsz
  have hD := hD0.self (sz := s.heap.size)
  generalize hAe : va_A (wX h0 b cA σ) s.heap.size = A at hD ⊢
  have hA : ∀ q : Nat, s.heap.size ≤ q → A q := fun q h => by rw [← hAe]; exact Or.inr h
  have hS : va_S A s.heap s.heap [] := va_S.rf
  have hl := lv_entry ([.ref h0, .int (nI j)]) (n := 2) (Nat.le_of_ble_eq_true rfl)
  rw [lg_entry_eq]
  generalize (lg_sl ([.ref h0, .int (nI j)]) ++ List.replicate (2 - (lg_sl ([.ref h0, .int (nI j)])).length) Slot.unset).toArray = ls at hl ⊢
  have hl : lv_has ls 2 [(0, .ref h0), (1, .int (nI j))] := hl
  refine lv_aload_n hx hb dX0_bringIn_0 rfl (lv_at hl 0 rfl) ?_
  refine va_get (D := (dC, dI)) (ci := 0) (v := .int (σ.1 11)) (C := RX0) (T := TX0) (N := 17) hx hb hts in_X0 hown hK hP 0 rfl rfl 11 (by decide) (hts _ q47) (fun _ h9 => h9) rfl dX0_bringIn_1 ?_
  refine lv_iload_n hx hb dX0_bringIn_4 rfl (lv_at hl 1 rfl) ?_
  refine lv_ishr hx hb dX0_bringIn_5 ?_
  refine lv_iconst (v := 1) hx hb dX0_bringIn_6 (by decide) ?_
  refine lv_iand hx hb dX0_bringIn_7 ?_
  refine lv_if_eq (tgt := 12) hx hb dX0_bringIn_8 (by decide) (fun c_8 => ?_) (fun c_8 => ?_)
  · refine lv_aload_n hx hb dX0_bringIn_12 rfl (lv_at hl 0 rfl) ?_
    refine lv_dup hx hb dX0_bringIn_13 rfl ?_
    refine va_get (D := (dC, dI)) (ci := 0) (v := .int (σ.1 11)) (C := RX0) (T := TX0) (N := 17) hx hb hts in_X0 hown hK hP 0 rfl rfl 11 (by decide) (hts _ q47) (fun _ h9 => h9) rfl dX0_bringIn_14 ?_
    refine lv_iconst (v := 1) hx hb dX0_bringIn_17 (by decide) ?_
    refine lv_iload_n hx hb dX0_bringIn_18 rfl (lv_at hl 1 rfl) ?_
    refine lv_ishl hx hb dX0_bringIn_19 ?_
    refine lv_ior hx hb dX0_bringIn_20 ?_
    refine va_put (D := (dC, dI)) (ci := 0) (v := .int ((σ.1 11) ||| ((1 : Int32) <<< ((nI j) &&& 31)))) (ty := .int) (C := RX0) (T := TX0) (N := 17) hx hb hts in_X0 tyX0 tyX0_ok nmX0 hown hK hP hD hS 0 rfl rfl 11 (by decide) (hts _ q47) (fun _ h9 => h9) rfl (by decide +kernel) rfl rfl (Nat.le_of_ble_eq_true rfl) dX0_bringIn_21 (fun H locs hP hD hS => ?_)
    have hP : va_P (dC, dI) vwCl (wX h0 b cA (setF σ 11 ((σ.1 11) ||| ((1 : Int32) <<< ((nI j) &&& 31))))) H := hP
    have hD : va_D A (wX h0 b cA (setF σ 11 ((σ.1 11) ||| ((1 : Int32) <<< ((nI j) &&& 31))))) := hD
    refine lv_aload_n hx hb dX0_bringIn_24 rfl (lv_at hl 0 rfl) ?_
    refine va_get (D := (dC, dI)) (ci := 0) (v := .ref (b 12)) (C := RX0) (T := TX0) (N := 17) hx hb hts in_X0 hown hK hP 0 rfl rfl 12 (by decide) (hts _ q48) (fun _ h9 => h9) rfl dX0_bringIn_25 ?_
    refine lv_iload_n hx hb dX0_bringIn_28 rfl (lv_at hl 1 rfl) ?_
    refine lv_aload_n hx hb dX0_bringIn_29 rfl (lv_at hl 0 rfl) ?_
    refine va_get (D := (dC, dI)) (ci := 0) (v := .ref (b 0)) (C := RX0) (T := TX0) (N := 17) hx hb hts in_X0 hown hK hP 0 rfl rfl 0 (by decide) (hts _ q36) (fun _ h9 => h9) rfl dX0_bringIn_30 ?_
    refine lv_iload_n hx hb dX0_bringIn_33 rfl (lv_at hl 1 rfl) ?_
    refine xa_iald (D := (dC, dI)) (f := σ.2 0) hx hb hK hP 1 0 rfl rfl j rfl (by omega) (by decide) dX0_bringIn_34 ?_
    refine xa_iast (D := (dC, dI)) (f := σ.2 12) hx hb hK hP hD hS 6 5 rfl rfl j rfl (by omega) (by decide) dX0_bringIn_35 (fun H locs hP hD hS => ?_)
    have hP : va_P (dC, dI) vwCl (wX h0 b cA (setA (setF σ 11 ((σ.1 11) ||| ((1 : Int32) <<< ((nI j) &&& 31)))) 12 j (σ.2 0 j))) H := hP
    have hD : va_D A (wX h0 b cA (setA (setF σ 11 ((σ.1 11) ||| ((1 : Int32) <<< ((nI j) &&& 31)))) 12 j (σ.2 0 j))) := hD
    refine lv_aload_n hx hb dX0_bringIn_36 rfl (lv_at hl 0 rfl) ?_
    refine va_get (D := (dC, dI)) (ci := 0) (v := .ref (b 13)) (C := RX0) (T := TX0) (N := 17) hx hb hts in_X0 hown hK hP 0 rfl rfl 13 (by decide) (hts _ q49) (fun _ h9 => h9) rfl dX0_bringIn_37 ?_
    refine lv_iconst (v := 2) hx hb dX0_bringIn_40 (by decide) ?_
    refine lv_iload_n hx hb dX0_bringIn_41 rfl (lv_at hl 1 rfl) ?_
    refine lv_imul hx hb dX0_bringIn_42 ?_
    refine lv_tope (e2m _) ?_
    refine lv_aload_n hx hb dX0_bringIn_43 rfl (lv_at hl 0 rfl) ?_
    refine va_get (D := (dC, dI)) (ci := 0) (v := .ref (b 1)) (C := RX0) (T := TX0) (N := 17) hx hb hts in_X0 hown hK hP 0 rfl rfl 1 (by decide) (hts _ q37) (fun _ h9 => h9) rfl dX0_bringIn_44 ?_
    refine lv_iconst (v := 2) hx hb dX0_bringIn_47 (by decide) ?_
    refine lv_iload_n hx hb dX0_bringIn_48 rfl (lv_at hl 1 rfl) ?_
    refine lv_imul hx hb dX0_bringIn_49 ?_
    refine lv_tope (e2m _) ?_
    refine xa_bald (D := (dC, dI)) (f := σ.2 1) hx hb hK hP 2 1 rfl rfl (2 * j) rfl (by omega) (by decide) dX0_bringIn_50 ?_
    refine xa_bast (D := (dC, dI)) (f := σ.2 13) hx hb hK hP hD hS 7 6 rfl rfl (2 * j) rfl (by omega) (by decide) (okv_byte (hok.1 _)) dX0_bringIn_51 (fun H locs hP hD hS => ?_)
    have hP : va_P (dC, dI) vwCl (wX h0 b cA (setA (setA (setF σ 11 ((σ.1 11) ||| ((1 : Int32) <<< ((nI j) &&& 31)))) 12 j (σ.2 0 j)) 13 (2 * j) (σ.2 1 (2 * j)))) H := hP
    have hD : va_D A (wX h0 b cA (setA (setA (setF σ 11 ((σ.1 11) ||| ((1 : Int32) <<< ((nI j) &&& 31)))) 12 j (σ.2 0 j)) 13 (2 * j) (σ.2 1 (2 * j)))) := hD
    refine lv_aload_n hx hb dX0_bringIn_52 rfl (lv_at hl 0 rfl) ?_
    refine va_get (D := (dC, dI)) (ci := 0) (v := .ref (b 13)) (C := RX0) (T := TX0) (N := 17) hx hb hts in_X0 hown hK hP 0 rfl rfl 13 (by decide) (hts _ q49) (fun _ h9 => h9) rfl dX0_bringIn_53 ?_
    refine lv_iconst (v := 2) hx hb dX0_bringIn_56 (by decide) ?_
    refine lv_iload_n hx hb dX0_bringIn_57 rfl (lv_at hl 1 rfl) ?_
    refine lv_imul hx hb dX0_bringIn_58 ?_
    refine lv_tope (e2m _) ?_
    refine lv_iconst (v := 1) hx hb dX0_bringIn_59 (by decide) ?_
    refine lv_iadd hx hb dX0_bringIn_60 ?_
    refine lv_tope (nI_1 _) ?_
    refine lv_aload_n hx hb dX0_bringIn_61 rfl (lv_at hl 0 rfl) ?_
    refine va_get (D := (dC, dI)) (ci := 0) (v := .ref (b 1)) (C := RX0) (T := TX0) (N := 17) hx hb hts in_X0 hown hK hP 0 rfl rfl 1 (by decide) (hts _ q37) (fun _ h9 => h9) rfl dX0_bringIn_62 ?_
    refine lv_iconst (v := 2) hx hb dX0_bringIn_65 (by decide) ?_
    refine lv_iload_n hx hb dX0_bringIn_66 rfl (lv_at hl 1 rfl) ?_
    refine lv_imul hx hb dX0_bringIn_67 ?_
    refine lv_tope (e2m _) ?_
    refine lv_iconst (v := 1) hx hb dX0_bringIn_68 (by decide) ?_
    refine lv_iadd hx hb dX0_bringIn_69 ?_
    refine lv_tope (nI_1 _) ?_
    refine xa_bald (D := (dC, dI)) (f := σ.2 1) hx hb hK hP 2 1 rfl rfl (2 * j + 1) rfl (by omega) (by decide) dX0_bringIn_70 ?_
    refine xa_bast (D := (dC, dI)) (f := (setA (setA (setF σ 11 ((σ.1 11) ||| ((1 : Int32) <<< ((nI j) &&& 31)))) 12 j (σ.2 0 j)) 13 (2 * j) (σ.2 1 (2 * j))).2 13) hx hb hK hP hD hS 7 6 rfl rfl (2 * j + 1) rfl (by omega) (by decide) (okv_byte (hok.1 _)) dX0_bringIn_71 (fun H locs hP hD hS => ?_)
    have hP : va_P (dC, dI) vwCl (wX h0 b cA (setA (setA (setA (setF σ 11 ((σ.1 11) ||| ((1 : Int32) <<< ((nI j) &&& 31)))) 12 j (σ.2 0 j)) 13 (2 * j) (σ.2 1 (2 * j))) 13 (2 * j + 1) (σ.2 1 (2 * j + 1)))) H := hP
    have hD : va_D A (wX h0 b cA (setA (setA (setA (setF σ 11 ((σ.1 11) ||| ((1 : Int32) <<< ((nI j) &&& 31)))) 12 j (σ.2 0 j)) 13 (2 * j) (σ.2 1 (2 * j))) 13 (2 * j + 1) (σ.2 1 (2 * j + 1)))) := hD
    have hqs : setA (setA (setA (setF σ 11 ((σ.1 11) ||| ((1 : Int32) <<< ((nI j) &&& 31)))) 12 j (σ.2 0 j)) 13 (2 * j) (σ.2 1 (2 * j))) 13 (2 * j + 1) (σ.2 1 (2 * j + 1)) = x_bring σ j := by simp only [x_bring, btI, if_pos c_8]
    exact W.vret hx hb hr (fun t ht hW => ⟨⟨(setA (setA (setA (setF σ 11 ((σ.1 11) ||| ((1 : Int32) <<< ((nI j) &&& 31)))) 12 j (σ.2 0 j)) 13 (2 * j) (σ.2 1 (2 * j))) 13 (2 * j + 1) (σ.2 1 (2 * j + 1))), rfl, hqs, by rw [ht]; exact hP, va_K.moved hW.alike hK, hD⟩, hS.F ht⟩) hS.2.2 dX0_bringIn_72
  · have hqs : σ = x_bring σ j := by simp only [x_bring, btI, if_neg c_8]
    exact W.vret hx hb hr (fun t ht hW => ⟨⟨σ, rfl, hqs, by rw [ht]; exact hP, va_K.moved hW.alike hK, hD⟩, hS.F ht⟩) hS.2.2 dX0_bringIn_11

set_option maxHeartbeats 4000000 in
theorem metX0_make (l : Launch) (dC : Nat → ClassId) (dI : Nat → Nat → Nat) (h0 : Nat) (b : Nat → Nat) (cA : Nat → ClassId) (sz : Nat) (σ : XS) (p1 : Int32) (p2 : Int32) (hok : okX σ) : MetI l yX0_make (ws_ yX0_make cX0_make 5 (some .int)) ({ frames := 3, cells := 0, slots := 0, locals := 71 }) (dC, dI) (tX cA) (wX h0 b cA) h0 [.int p1, .int p2] sz σ ((x_make σ p1 p2).1) ((x_make σ p1 p2).2) := by
  refine Met.ofW (cc := cX0_make) (maxL := 5) (ret := (some .int)) (by decide) rfl ?_
  intro p e s m args below meth c s₁ B hml hv
  obtain ⟨rfl, hsz, hP, hK, hD0⟩ := hv
  have hx := B.exec
  have hb := B.bytes
  have hr := B.returns
  have hts := atoms_spec (ws := (ws_ yX0_make cX0_make 5 (some .int))) B.pre
  have hts : ∀ w ∈ lw_all, w.before _ s = true := fun w h => hts w (List.mem_cons_of_mem _ h)
  have hown : s.vm.findClass RX0 = some m.cls := findClass_of_methodNamed B.named
  have hlocks := B.notSynchronized
  subst hsz
  have hD := hD0.self (sz := s.heap.size)
  generalize hAe : va_A (wX h0 b cA σ) s.heap.size = A at hD ⊢
  have hA : ∀ q : Nat, s.heap.size ≤ q → A q := fun q h => by rw [← hAe]; exact Or.inr h
  have hS : va_S A s.heap s.heap [] := va_S.rf
  have hl := lv_entry ([.ref h0, .int p1, .int p2]) (n := 5) (Nat.le_of_ble_eq_true rfl)
  rw [lg_entry_eq]
  generalize (lg_sl ([.ref h0, .int p1, .int p2]) ++ List.replicate (5 - (lg_sl ([.ref h0, .int p1, .int p2])).length) Slot.unset).toArray = ls at hl ⊢
  have hl : lv_has ls 5 [(0, .ref h0), (1, .int p1), (2, .int p2)] := hl
  refine lv_aload_n hx hb dX0_make_0 rfl (lv_at hl 0 rfl) ?_
  refine lv_iload_n hx hb dX0_make_1 rfl (lv_at hl 1 rfl) ?_
  refine ca_i (D := (dC, dI)) (wf := wX h0 b cA) hx hb hml hown hts (metX0_isHandle l dC dI h0 b cA _ σ p1) (cwV 1 hts (lw_V q94 q96 qs0 q26 q97) rfl rfl rfl (by decide +kernel) ⟨Nat.le_of_ble_eq_true rfl, Nat.le_of_ble_eq_true rfl⟩) hK hP hD hS hA 0 0 rfl rfl rfl hl.1 rfl (lv_room (Nat.le_of_ble_eq_true rfl)) dX0_make_2 ⟨Nat.le_of_ble_eq_true rfl, Nat.le_of_ble_eq_true rfl⟩ (fun H locs hP hD hS => ?_)
  refine lv_if_ne (tgt := 10) hx hb dX0_make_5 (by decide) (fun c_5 => ?_) (fun c_5 => ?_)
  · obtain ⟨k, hk, rfl⟩ := isH_in c_5
    have hkc : (nI k).toNatClampNeg = k := nI_clamp (by omega)
    refine lv_aload_n hx hb dX0_make_10 rfl (lv_at hl 0 rfl) ?_
    refine ca_i (D := (dC, dI)) (wf := wX h0 b cA) hx hb hml hown hts (metX0_usedPlaces l dC dI h0 b cA _ σ ) (cwV 0 hts (lw_V q98 q100 qs1 q26 q101) rfl rfl rfl (by decide +kernel) ⟨Nat.le_of_ble_eq_true rfl, Nat.le_of_ble_eq_true rfl⟩) hK hP hD hS hA 0 0 rfl rfl rfl hl.1 rfl (lv_room (Nat.le_of_ble_eq_true rfl)) dX0_make_11 ⟨Nat.le_of_ble_eq_true rfl, Nat.le_of_ble_eq_true rfl⟩ (fun H locs hP hD hS => ?_)
    refine lv_istore_n (lv' := [(3, .int (x_used σ)), (0, .ref h0), (1, .int (nI k)), (2, .int p2)]) hx hb dX0_make_14 rfl hl (by decide) rfl (fun ls hl => ?_)
    refine lv_aload_n hx hb dX0_make_15 rfl (lv_at hl 1 rfl) ?_
    refine lv_iload_n hx hb dX0_make_16 rfl (lv_at hl 0 rfl) ?_
    refine ca_i (D := (dC, dI)) (wf := wX h0 b cA) hx hb hml hown hts (metX0_bitsIn l dC dI h0 b cA _ σ (x_used σ)) (cwV 1 hts (lw_V q110 q112 qs4 q26 q113) rfl rfl rfl (by decide +kernel) ⟨Nat.le_of_ble_eq_true rfl, Nat.le_of_ble_eq_true rfl⟩) hK hP hD hS hA 0 0 rfl rfl rfl hl.1 rfl (lv_room (Nat.le_of_ble_eq_true rfl)) dX0_make_17 ⟨Nat.le_of_ble_eq_true rfl, Nat.le_of_ble_eq_true rfl⟩ (fun H locs hP hD hS => ?_)
    refine lv_bipush (v := 12) hx hb dX0_make_20 (by decide) ?_
    refine lv_icmp_lt (tgt := 28) hx hb dX0_make_22 (by decide) (fun c_22 => ?_) (fun c_22 => ?_)
    · refine lv_aload_n hx hb dX0_make_28 rfl (lv_at hl 1 rfl) ?_
      refine lv_iload_n hx hb dX0_make_29 rfl (lv_at hl 0 rfl) ?_
      refine ca_i (D := (dC, dI)) (wf := wX h0 b cA) hx hb hml hown hts (metX0_freePlace l dC dI h0 b cA _ σ (x_used σ)) (cwV 1 hts (lw_V q114 q116 qs5 q26 q117) rfl rfl rfl (by decide +kernel) ⟨Nat.le_of_ble_eq_true rfl, Nat.le_of_ble_eq_true rfl⟩) hK hP hD hS hA 0 0 rfl rfl rfl hl.1 rfl (lv_room (Nat.le_of_ble_eq_true rfl)) dX0_make_30 ⟨Nat.le_of_ble_eq_true rfl, Nat.le_of_ble_eq_true rfl⟩ (fun H locs hP hD hS => ?_)
      have hx12 := x_free_lt σ (x_used σ)
      refine lv_istore (lv' := [(4, .int (nI (x_free σ (x_used σ)))), (3, .int (x_used σ)), (0, .ref h0), (1, .int (nI k)), (2, .int p2)]) hx hb dX0_make_33 hl (by decide) rfl (fun ls hl => ?_)
      refine lv_aload_n hx hb dX0_make_35 rfl (lv_at hl 2 rfl) ?_
      refine lv_dup hx hb dX0_make_36 rfl ?_
      refine va_get (D := (dC, dI)) (ci := 0) (v := .int ((x_fp1 σ (x_used σ)).1 14)) (C := RX0) (T := TX0) (N := 17) hx hb hts in_X0 hown hK hP 0 rfl rfl 14 (by decide) (hts _ q50) (fun _ h9 => h9) rfl dX0_make_37 ?_
      refine lv_iconst (v := 1) hx hb dX0_make_40 (by decide) ?_
      refine lv_iload hx hb dX0_make_41 (lv_at hl 0 rfl) ?_
      refine lv_ishl hx hb dX0_make_43 ?_
      refine lv_ior hx hb dX0_make_44 ?_
      refine va_put (D := (dC, dI)) (ci := 0) (v := .int (((x_fp1 σ (x_used σ)).1 14) ||| ((1 : Int32) <<< ((nI (x_free σ (x_used σ))) &&& 31)))) (ty := .int) (C := RX0) (T := TX0) (N := 17) hx hb hts in_X0 tyX0 tyX0_ok nmX0 hown hK hP hD hS 0 rfl rfl 14 (by decide) (hts _ q50) (fun _ h9 => h9) rfl (by decide +kernel) rfl rfl (Nat.le_of_ble_eq_true rfl) dX0_make_45 (fun H locs hP hD hS => ?_)
      have hP : va_P (dC, dI) vwCl (wX h0 b cA (setF (x_fp1 σ (x_used σ)) 14 (((x_fp1 σ (x_used σ)).1 14) ||| ((1 : Int32) <<< ((nI (x_free σ (x_used σ))) &&& 31))))) H := hP
      have hD : va_D A (wX h0 b cA (setF (x_fp1 σ (x_used σ)) 14 (((x_fp1 σ (x_used σ)).1 14) ||| ((1 : Int32) <<< ((nI (x_free σ (x_used σ))) &&& 31))))) := hD
      refine lv_aload_n hx hb dX0_make_48 rfl (lv_at hl 2 rfl) ?_
      refine lv_dup hx hb dX0_make_49 rfl ?_
      refine va_get (D := (dC, dI)) (ci := 0) (v := .int ((x_fp1 σ (x_used σ)).1 11)) (C := RX0) (T := TX0) (N := 17) hx hb hts in_X0 hown hK hP 0 rfl rfl 11 (by decide) (hts _ q47) (fun _ h9 => h9) rfl dX0_make_50 ?_
      refine lv_iconst (v := 1) hx hb dX0_make_53 (by decide) ?_
      refine lv_iload hx hb dX0_make_54 (lv_at hl 0 rfl) ?_
      refine lv_ishl hx hb dX0_make_56 ?_
      refine lv_ior hx hb dX0_make_57 ?_
      refine va_put (D := (dC, dI)) (ci := 0) (v := .int (((x_fp1 σ (x_used σ)).1 11) ||| ((1 : Int32) <<< ((nI (x_free σ (x_used σ))) &&& 31)))) (ty := .int) (C := RX0) (T := TX0) (N := 17) hx hb hts in_X0 tyX0 tyX0_ok nmX0 hown hK hP hD hS 0 rfl rfl 11 (by decide) (hts _ q47) (fun _ h9 => h9) rfl (by decide +kernel) rfl rfl (Nat.le_of_ble_eq_true rfl) dX0_make_58 (fun H locs hP hD hS => ?_)
      have hP : va_P (dC, dI) vwCl (wX h0 b cA (setF (setF (x_fp1 σ (x_used σ)) 14 (((x_fp1 σ (x_used σ)).1 14) ||| ((1 : Int32) <<< ((nI (x_free σ (x_used σ))) &&& 31)))) 11 (((x_fp1 σ (x_used σ)).1 11) ||| ((1 : Int32) <<< ((nI (x_free σ (x_used σ))) &&& 31))))) H := hP
      have hD : va_D A (wX h0 b cA (setF (setF (x_fp1 σ (x_used σ)) 14 (((x_fp1 σ (x_used σ)).1 14) ||| ((1 : Int32) <<< ((nI (x_free σ (x_used σ))) &&& 31)))) 11 (((x_fp1 σ (x_used σ)).1 11) ||| ((1 : Int32) <<< ((nI (x_free σ (x_used σ))) &&& 31))))) := hD
      refine lv_aload_n hx hb dX0_make_61 rfl (lv_at hl 2 rfl) ?_
      refine va_get (D := (dC, dI)) (ci := 0) (v := .ref (b 12)) (C := RX0) (T := TX0) (N := 17) hx hb hts in_X0 hown hK hP 0 rfl rfl 12 (by decide) (hts _ q48) (fun _ h9 => h9) rfl dX0_make_62 ?_
      refine lv_iload hx hb dX0_make_65 (lv_at hl 0 rfl) ?_
      refine lv_iload_n hx hb dX0_make_67 rfl (lv_at hl 4 rfl) ?_
      refine xa_iast (D := (dC, dI)) (f := (x_fp1 σ (x_used σ)).2 12) hx hb hK hP hD hS 6 5 rfl rfl (x_free σ (x_used σ)) rfl (by omega) (by decide) dX0_make_68 (fun H locs hP hD hS => ?_)
      have hP : va_P (dC, dI) vwCl (wX h0 b cA (setA (setF (setF (x_fp1 σ (x_used σ)) 14 (((x_fp1 σ (x_used σ)).1 14) ||| ((1 : Int32) <<< ((nI (x_free σ (x_used σ))) &&& 31)))) 11 (((x_fp1 σ (x_used σ)).1 11) ||| ((1 : Int32) <<< ((nI (x_free σ (x_used σ))) &&& 31)))) 12 (x_free σ (x_used σ)) p2)) H := hP
      have hD : va_D A (wX h0 b cA (setA (setF (setF (x_fp1 σ (x_used σ)) 14 (((x_fp1 σ (x_used σ)).1 14) ||| ((1 : Int32) <<< ((nI (x_free σ (x_used σ))) &&& 31)))) 11 (((x_fp1 σ (x_used σ)).1 11) ||| ((1 : Int32) <<< ((nI (x_free σ (x_used σ))) &&& 31)))) 12 (x_free σ (x_used σ)) p2)) := hD
      refine lv_aload_n hx hb dX0_make_69 rfl (lv_at hl 2 rfl) ?_
      refine va_get (D := (dC, dI)) (ci := 0) (v := .ref (b 13)) (C := RX0) (T := TX0) (N := 17) hx hb hts in_X0 hown hK hP 0 rfl rfl 13 (by decide) (hts _ q49) (fun _ h9 => h9) rfl dX0_make_70 ?_
      refine lv_iconst (v := 2) hx hb dX0_make_73 (by decide) ?_
      refine lv_iload hx hb dX0_make_74 (lv_at hl 0 rfl) ?_
      refine lv_imul hx hb dX0_make_76 ?_
      refine lv_tope (e2m _) ?_
      refine lv_iconst (v := (-1)) hx hb dX0_make_77 (by decide) ?_
      refine xa_bast (D := (dC, dI)) (f := (x_fp1 σ (x_used σ)).2 13) hx hb hK hP hD hS 7 6 rfl rfl (2 * (x_free σ (x_used σ))) rfl (by omega) (by decide) (by decide +kernel) dX0_make_78 (fun H locs hP hD hS => ?_)
      have hP : va_P (dC, dI) vwCl (wX h0 b cA (setA (setA (setF (setF (x_fp1 σ (x_used σ)) 14 (((x_fp1 σ (x_used σ)).1 14) ||| ((1 : Int32) <<< ((nI (x_free σ (x_used σ))) &&& 31)))) 11 (((x_fp1 σ (x_used σ)).1 11) ||| ((1 : Int32) <<< ((nI (x_free σ (x_used σ))) &&& 31)))) 12 (x_free σ (x_used σ)) p2) 13 (2 * (x_free σ (x_used σ))) (-1))) H := hP
      have hD : va_D A (wX h0 b cA (setA (setA (setF (setF (x_fp1 σ (x_used σ)) 14 (((x_fp1 σ (x_used σ)).1 14) ||| ((1 : Int32) <<< ((nI (x_free σ (x_used σ))) &&& 31)))) 11 (((x_fp1 σ (x_used σ)).1 11) ||| ((1 : Int32) <<< ((nI (x_free σ (x_used σ))) &&& 31)))) 12 (x_free σ (x_used σ)) p2) 13 (2 * (x_free σ (x_used σ))) (-1))) := hD
      refine lv_aload_n hx hb dX0_make_79 rfl (lv_at hl 2 rfl) ?_
      refine va_get (D := (dC, dI)) (ci := 0) (v := .ref (b 13)) (C := RX0) (T := TX0) (N := 17) hx hb hts in_X0 hown hK hP 0 rfl rfl 13 (by decide) (hts _ q49) (fun _ h9 => h9) rfl dX0_make_80 ?_
      refine lv_iconst (v := 2) hx hb dX0_make_83 (by decide) ?_
      refine lv_iload hx hb dX0_make_84 (lv_at hl 0 rfl) ?_
      refine lv_imul hx hb dX0_make_86 ?_
      refine lv_tope (e2m _) ?_
      refine lv_iconst (v := 1) hx hb dX0_make_87 (by decide) ?_
      refine lv_iadd hx hb dX0_make_88 ?_
      refine lv_tope (nI_1 _) ?_
      refine lv_iconst (v := (-1)) hx hb dX0_make_89 (by decide) ?_
      refine xa_bast (D := (dC, dI)) (f := (setA (setA (setF (setF (x_fp1 σ (x_used σ)) 14 (((x_fp1 σ (x_used σ)).1 14) ||| ((1 : Int32) <<< ((nI (x_free σ (x_used σ))) &&& 31)))) 11 (((x_fp1 σ (x_used σ)).1 11) ||| ((1 : Int32) <<< ((nI (x_free σ (x_used σ))) &&& 31)))) 12 (x_free σ (x_used σ)) p2) 13 (2 * (x_free σ (x_used σ))) (-1)).2 13) hx hb hK hP hD hS 7 6 rfl rfl (2 * (x_free σ (x_used σ)) + 1) rfl (by omega) (by decide) (by decide +kernel) dX0_make_90 (fun H locs hP hD hS => ?_)
      have hP : va_P (dC, dI) vwCl (wX h0 b cA (setA (setA (setA (setF (setF (x_fp1 σ (x_used σ)) 14 (((x_fp1 σ (x_used σ)).1 14) ||| ((1 : Int32) <<< ((nI (x_free σ (x_used σ))) &&& 31)))) 11 (((x_fp1 σ (x_used σ)).1 11) ||| ((1 : Int32) <<< ((nI (x_free σ (x_used σ))) &&& 31)))) 12 (x_free σ (x_used σ)) p2) 13 (2 * (x_free σ (x_used σ))) (-1)) 13 (2 * (x_free σ (x_used σ)) + 1) (-1))) H := hP
      have hD : va_D A (wX h0 b cA (setA (setA (setA (setF (setF (x_fp1 σ (x_used σ)) 14 (((x_fp1 σ (x_used σ)).1 14) ||| ((1 : Int32) <<< ((nI (x_free σ (x_used σ))) &&& 31)))) 11 (((x_fp1 σ (x_used σ)).1 11) ||| ((1 : Int32) <<< ((nI (x_free σ (x_used σ))) &&& 31)))) 12 (x_free σ (x_used σ)) p2) 13 (2 * (x_free σ (x_used σ))) (-1)) 13 (2 * (x_free σ (x_used σ)) + 1) (-1))) := hD
      refine lv_aload_n hx hb dX0_make_91 rfl (lv_at hl 2 rfl) ?_
      refine va_get (D := (dC, dI)) (ci := 0) (v := .ref (b 16)) (C := RX0) (T := TX0) (N := 17) hx hb hts in_X0 hown hK hP 0 rfl rfl 16 (by decide) (hts _ q52) (fun _ h9 => h9) rfl dX0_make_92 ?_
      refine lv_iload_n hx hb dX0_make_95 rfl (lv_at hl 3 rfl) ?_
      refine lv_iload hx hb dX0_make_96 (lv_at hl 0 rfl) ?_
      refine lv_i2b (v := nI (x_free σ (x_used σ))) hx hb dX0_make_98 (ok_byte _ (by omega)) ?_
      refine xa_bast (D := (dC, dI)) (f := (x_fp1 σ (x_used σ)).2 16) hx hb hK hP hD hS 8 7 rfl rfl k rfl (by omega) (by decide) (ok_byte _ (by omega)) dX0_make_99 (fun H locs hP hD hS => ?_)
      have hP : va_P (dC, dI) vwCl (wX h0 b cA (setA (setA (setA (setA (setF (setF (x_fp1 σ (x_used σ)) 14 (((x_fp1 σ (x_used σ)).1 14) ||| ((1 : Int32) <<< ((nI (x_free σ (x_used σ))) &&& 31)))) 11 (((x_fp1 σ (x_used σ)).1 11) ||| ((1 : Int32) <<< ((nI (x_free σ (x_used σ))) &&& 31)))) 12 (x_free σ (x_used σ)) p2) 13 (2 * (x_free σ (x_used σ))) (-1)) 13 (2 * (x_free σ (x_used σ)) + 1) (-1)) 16 k (nI (x_free σ (x_used σ))))) H := hP
      have hD : va_D A (wX h0 b cA (setA (setA (setA (setA (setF (setF (x_fp1 σ (x_used σ)) 14 (((x_fp1 σ (x_used σ)).1 14) ||| ((1 : Int32) <<< ((nI (x_free σ (x_used σ))) &&& 31)))) 11 (((x_fp1 σ (x_used σ)).1 11) ||| ((1 : Int32) <<< ((nI (x_free σ (x_used σ))) &&& 31)))) 12 (x_free σ (x_used σ)) p2) 13 (2 * (x_free σ (x_used σ))) (-1)) 13 (2 * (x_free σ (x_used σ)) + 1) (-1)) 16 k (nI (x_free σ (x_used σ))))) := hD
      refine lv_iload_n hx hb dX0_make_100 rfl (lv_at hl 3 rfl) ?_
      have hqr : nI k = (x_make σ (nI k) p2).1 := by simp only [x_make, x_mk2, if_neg c_5, if_pos c_22, hkc]
      have hqs : setA (setA (setA (setA (setF (setF (x_fp1 σ (x_used σ)) 14 (((x_fp1 σ (x_used σ)).1 14) ||| ((1 : Int32) <<< ((nI (x_free σ (x_used σ))) &&& 31)))) 11 (((x_fp1 σ (x_used σ)).1 11) ||| ((1 : Int32) <<< ((nI (x_free σ (x_used σ))) &&& 31)))) 12 (x_free σ (x_used σ)) p2) 13 (2 * (x_free σ (x_used σ))) (-1)) 13 (2 * (x_free σ (x_used σ)) + 1) (-1)) 16 k (nI (x_free σ (x_used σ))) = (x_make σ (nI k) p2).2 := by simp only [x_make, x_mk2, if_neg c_5, if_pos c_22, hkc]
      exact W.iret (v := nI k) hx hb hr (fun t ht hW => ⟨⟨nI k, (setA (setA (setA (setA (setF (setF (x_fp1 σ (x_used σ)) 14 (((x_fp1 σ (x_used σ)).1 14) ||| ((1 : Int32) <<< ((nI (x_free σ (x_used σ))) &&& 31)))) 11 (((x_fp1 σ (x_used σ)).1 11) ||| ((1 : Int32) <<< ((nI (x_free σ (x_used σ))) &&& 31)))) 12 (x_free σ (x_used σ)) p2) 13 (2 * (x_free σ (x_used σ))) (-1)) 13 (2 * (x_free σ (x_used σ)) + 1) (-1)) 16 k (nI (x_free σ (x_used σ)))), rfl, ⟨hqr, hqs⟩, by rw [ht]; exact hP, va_K.moved hW.alike hK, hD⟩, hS.F ht⟩) hS.2.2 dX0_make_101
    · refine lv_bipush (v := (-2)) hx hb dX0_make_25 (by decide) ?_
      have hqr : (-2) = (x_make σ (nI k) p2).1 := by simp only [x_make, x_mk2, if_neg c_5, if_neg c_22, hkc]
      have hqs : σ = (x_make σ (nI k) p2).2 := by simp only [x_make, x_mk2, if_neg c_5, if_neg c_22, hkc]
      exact W.iret (v := (-2)) hx hb hr (fun t ht hW => ⟨⟨(-2), σ, rfl, ⟨hqr, hqs⟩, by rw [ht]; exact hP, va_K.moved hW.alike hK, hD⟩, hS.F ht⟩) hS.2.2 dX0_make_27
  · refine lv_iconst (v := (-1)) hx hb dX0_make_8 (by decide) ?_
    have hqr : (-1) = (x_make σ p1 p2).1 := by simp only [x_make, x_mk2, if_pos c_5]
    have hqs : σ = (x_make σ p1 p2).2 := by simp only [x_make, x_mk2, if_pos c_5]
    exact W.iret (v := (-1)) hx hb hr (fun t ht hW => ⟨⟨(-1), σ, rfl, ⟨hqr, hqs⟩, by rw [ht]; exact hP, va_K.moved hW.alike hK, hD⟩, hS.F ht⟩) hS.2.2 dX0_make_9

set_option maxHeartbeats 4000000 in
theorem metX0_getRoot (l : Launch) (dC : Nat → ClassId) (dI : Nat → Nat → Nat) (h0 : Nat) (b : Nat → Nat) (cA : Nat → ClassId) (sz : Nat) (σ : XS) (p1 : Int32) (hok : okX σ) : MetI l yX0_getRoot (ws_ yX0_getRoot cX0_getRoot 2 (some .int)) ({ frames := 1, cells := 0, slots := 0, locals := 21 }) (dC, dI) (tX cA) (wX h0 b cA) h0 [.int p1] sz σ ((x_getRoot σ p1).1) ((x_getRoot σ p1).2) := by
  refine Met.ofW (cc := cX0_getRoot) (maxL := 2) (ret := (some .int)) (by decide) rfl ?_
  intro p e s m args below meth c s₁ B hml hv
  obtain ⟨rfl, hsz, hP, hK, hD0⟩ := hv
  have hx := B.exec
  have hb := B.bytes
  have hr := B.returns
  have hts := atoms_spec (ws := (ws_ yX0_getRoot cX0_getRoot 2 (some .int))) B.pre
  have hts : ∀ w ∈ lw_all, w.before _ s = true := fun w h => hts w (List.mem_cons_of_mem _ h)
  have hown : s.vm.findClass RX0 = some m.cls := findClass_of_methodNamed B.named
  have hlocks := B.notSynchronized
  subst hsz
  have hD := hD0.self (sz := s.heap.size)
  generalize hAe : va_A (wX h0 b cA σ) s.heap.size = A at hD ⊢
  have hA : ∀ q : Nat, s.heap.size ≤ q → A q := fun q h => by rw [← hAe]; exact Or.inr h
  have hS : va_S A s.heap s.heap [] := va_S.rf
  have hl := lv_entry ([.ref h0, .int p1]) (n := 2) (Nat.le_of_ble_eq_true rfl)
  rw [lg_entry_eq]
  generalize (lg_sl ([.ref h0, .int p1]) ++ List.replicate (2 - (lg_sl ([.ref h0, .int p1])).length) Slot.unset).toArray = ls at hl ⊢
  have hl : lv_has ls 2 [(0, .ref h0), (1, .int p1)] := hl
  refine lv_aload_n hx hb dX0_getRoot_0 rfl (lv_at hl 0 rfl) ?_
  refine lv_iload_n hx hb dX0_getRoot_1 rfl (lv_at hl 1 rfl) ?_
  refine ca_i (D := (dC, dI)) (wf := wX h0 b cA) hx hb hml hown hts (metX0_isHandle l dC dI h0 b cA _ σ p1) (cwV 1 hts (lw_V q94 q96 qs0 q26 q97) rfl rfl rfl (by decide +kernel) ⟨Nat.le_of_ble_eq_true rfl, Nat.le_of_ble_eq_true rfl⟩) hK hP hD hS hA 0 0 rfl rfl rfl hl.1 rfl (lv_room (Nat.le_of_ble_eq_true rfl)) dX0_getRoot_2 ⟨Nat.le_of_ble_eq_true rfl, Nat.le_of_ble_eq_true rfl⟩ (fun H locs hP hD hS => ?_)
  refine lv_if_ne (tgt := 10) hx hb dX0_getRoot_5 (by decide) (fun c_5 => ?_) (fun c_5 => ?_)
  · obtain ⟨k, hk, rfl⟩ := isH_in c_5
    have hkc : (nI k).toNatClampNeg = k := nI_clamp (by omega)
    refine lv_aload_n hx hb dX0_getRoot_10 rfl (lv_at hl 0 rfl) ?_
    refine va_get (D := (dC, dI)) (ci := 0) (v := .ref (b 16)) (C := RX0) (T := TX0) (N := 17) hx hb hts in_X0 hown hK hP 0 rfl rfl 16 (by decide) (hts _ q52) (fun _ h9 => h9) rfl dX0_getRoot_11 ?_
    refine lv_iload_n hx hb dX0_getRoot_14 rfl (lv_at hl 1 rfl) ?_
    refine lv_aload_n hx hb dX0_getRoot_15 rfl (lv_at hl 0 rfl) ?_
    refine va_get (D := (dC, dI)) (ci := 0) (v := .int (σ.1 15)) (C := RX0) (T := TX0) (N := 17) hx hb hts in_X0 hown hK hP 0 rfl rfl 15 (by decide) (hts _ q51) (fun _ h9 => h9) rfl dX0_getRoot_16 ?_
    refine lv_i2b (v := σ.1 15) hx hb dX0_getRoot_19 (okv_byte hok.2.2.2.2.2.1) ?_
    refine xa_bast (D := (dC, dI)) (f := σ.2 16) hx hb hK hP hD hS 8 7 rfl rfl k rfl (by omega) (by decide) (okv_byte hok.2.2.2.2.2.1) dX0_getRoot_20 (fun H locs hP hD hS => ?_)
    have hP : va_P (dC, dI) vwCl (wX h0 b cA (setA σ 16 k (σ.1 15))) H := hP
    have hD : va_D A (wX h0 b cA (setA σ 16 k (σ.1 15))) := hD
    refine lv_aload_n hx hb dX0_getRoot_21 rfl (lv_at hl 0 rfl) ?_
    refine va_get (D := (dC, dI)) (ci := 0) (v := .int (σ.1 15)) (C := RX0) (T := TX0) (N := 17) hx hb hts in_X0 hown hK hP 0 rfl rfl 15 (by decide) (hts _ q51) (fun _ h9 => h9) rfl dX0_getRoot_22 ?_
    refine lv_if_ge (tgt := 32) hx hb dX0_getRoot_25 (by decide) (fun c_25 => ?_) (fun c_25 => ?_)
    · refine lv_iconst (v := 1) hx hb dX0_getRoot_32 (by decide) ?_
      have hqr : 1 = (x_getRoot σ (nI k)).1 := by simp only [x_getRoot, leads, if_neg c_5, if_pos c_25, hkc]
      have hqs : setA σ 16 k (σ.1 15) = (x_getRoot σ (nI k)).2 := by simp only [x_getRoot, leads, if_neg c_5, if_pos c_25, hkc]
      exact W.iret (v := 1) hx hb hr (fun t ht hW => ⟨⟨1, (setA σ 16 k (σ.1 15)), rfl, ⟨hqr, hqs⟩, by rw [ht]; exact hP, va_K.moved hW.alike hK, hD⟩, hS.F ht⟩) hS.2.2 dX0_getRoot_33
    · refine lv_iconst (v := 0) hx hb dX0_getRoot_28 (by decide) ?_
      refine lv_goto (tgt := 33) hx hb dX0_getRoot_29 (by decide) ?_
      have hqr : 0 = (x_getRoot σ (nI k)).1 := by simp only [x_getRoot, leads, if_neg c_5, if_neg c_25, hkc]
      have hqs : setA σ 16 k (σ.1 15) = (x_getRoot σ (nI k)).2 := by simp only [x_getRoot, leads, if_neg c_5, if_neg c_25, hkc]
      exact W.iret (v := 0) hx hb hr (fun t ht hW => ⟨⟨0, (setA σ 16 k (σ.1 15)), rfl, ⟨hqr, hqs⟩, by rw [ht]; exact hP, va_K.moved hW.alike hK, hD⟩, hS.F ht⟩) hS.2.2 dX0_getRoot_33
  · refine lv_iconst (v := (-1)) hx hb dX0_getRoot_8 (by decide) ?_
    have hqr : (-1) = (x_getRoot σ p1).1 := by simp only [x_getRoot, leads, if_pos c_5]
    have hqs : σ = (x_getRoot σ p1).2 := by simp only [x_getRoot, leads, if_pos c_5]
    exact W.iret (v := (-1)) hx hb hr (fun t ht hW => ⟨⟨(-1), σ, rfl, ⟨hqr, hqs⟩, by rw [ht]; exact hP, va_K.moved hW.alike hK, hD⟩, hS.F ht⟩) hS.2.2 dX0_getRoot_9

set_option maxHeartbeats 4000000 in
theorem metX0_setRoot (l : Launch) (dC : Nat → ClassId) (dI : Nat → Nat → Nat) (h0 : Nat) (b : Nat → Nat) (cA : Nat → ClassId) (sz : Nat) (σ : XS) (p1 : Int32) (hok : okX σ) : MetI l yX0_setRoot (ws_ yX0_setRoot cX0_setRoot 2 (some .int)) ({ frames := 1, cells := 0, slots := 0, locals := 21 }) (dC, dI) (tX cA) (wX h0 b cA) h0 [.int p1] sz σ ((x_setRoot σ p1).1) ((x_setRoot σ p1).2) := by
  refine Met.ofW (cc := cX0_setRoot) (maxL := 2) (ret := (some .int)) (by decide) rfl ?_
  intro p e s m args below meth c s₁ B hml hv
  obtain ⟨rfl, hsz, hP, hK, hD0⟩ := hv
  have hx := B.exec
  have hb := B.bytes
  have hr := B.returns
  have hts := atoms_spec (ws := (ws_ yX0_setRoot cX0_setRoot 2 (some .int))) B.pre
  have hts : ∀ w ∈ lw_all, w.before _ s = true := fun w h => hts w (List.mem_cons_of_mem _ h)
  have hown : s.vm.findClass RX0 = some m.cls := findClass_of_methodNamed B.named
  have hlocks := B.notSynchronized
  subst hsz
  have hD := hD0.self (sz := s.heap.size)
  generalize hAe : va_A (wX h0 b cA σ) s.heap.size = A at hD ⊢
  have hA : ∀ q : Nat, s.heap.size ≤ q → A q := fun q h => by rw [← hAe]; exact Or.inr h
  have hS : va_S A s.heap s.heap [] := va_S.rf
  have hl := lv_entry ([.ref h0, .int p1]) (n := 2) (Nat.le_of_ble_eq_true rfl)
  rw [lg_entry_eq]
  generalize (lg_sl ([.ref h0, .int p1]) ++ List.replicate (2 - (lg_sl ([.ref h0, .int p1])).length) Slot.unset).toArray = ls at hl ⊢
  have hl : lv_has ls 2 [(0, .ref h0), (1, .int p1)] := hl
  refine lv_aload_n hx hb dX0_setRoot_0 rfl (lv_at hl 0 rfl) ?_
  refine lv_iload_n hx hb dX0_setRoot_1 rfl (lv_at hl 1 rfl) ?_
  refine ca_i (D := (dC, dI)) (wf := wX h0 b cA) hx hb hml hown hts (metX0_isHandle l dC dI h0 b cA _ σ p1) (cwV 1 hts (lw_V q94 q96 qs0 q26 q97) rfl rfl rfl (by decide +kernel) ⟨Nat.le_of_ble_eq_true rfl, Nat.le_of_ble_eq_true rfl⟩) hK hP hD hS hA 0 0 rfl rfl rfl hl.1 rfl (lv_room (Nat.le_of_ble_eq_true rfl)) dX0_setRoot_2 ⟨Nat.le_of_ble_eq_true rfl, Nat.le_of_ble_eq_true rfl⟩ (fun H locs hP hD hS => ?_)
  refine lv_if_ne (tgt := 10) hx hb dX0_setRoot_5 (by decide) (fun c_5 => ?_) (fun c_5 => ?_)
  · obtain ⟨k, hk, rfl⟩ := isH_in c_5
    have hkc : (nI k).toNatClampNeg = k := nI_clamp (by omega)
    refine lv_aload_n hx hb dX0_setRoot_10 rfl (lv_at hl 0 rfl) ?_
    refine lv_aload_n hx hb dX0_setRoot_11 rfl (lv_at hl 0 rfl) ?_
    refine va_get (D := (dC, dI)) (ci := 0) (v := .ref (b 16)) (C := RX0) (T := TX0) (N := 17) hx hb hts in_X0 hown hK hP 0 rfl rfl 16 (by decide) (hts _ q52) (fun _ h9 => h9) rfl dX0_setRoot_12 ?_
    refine lv_iload_n hx hb dX0_setRoot_15 rfl (lv_at hl 1 rfl) ?_
    refine xa_bald (D := (dC, dI)) (f := σ.2 16) hx hb hK hP 8 7 rfl rfl k rfl (by omega) (by decide) dX0_setRoot_16 ?_
    refine va_put (D := (dC, dI)) (ci := 0) (v := .int (σ.2 16 k)) (ty := .int) (C := RX0) (T := TX0) (N := 17) hx hb hts in_X0 tyX0 tyX0_ok nmX0 hown hK hP hD hS 0 rfl rfl 15 (by decide) (hts _ q51) (fun _ h9 => h9) rfl (by decide +kernel) rfl rfl (Nat.le_of_ble_eq_true rfl) dX0_setRoot_17 (fun H locs hP hD hS => ?_)
    have hP : va_P (dC, dI) vwCl (wX h0 b cA (setF σ 15 (σ.2 16 k))) H := hP
    have hD : va_D A (wX h0 b cA (setF σ 15 (σ.2 16 k))) := hD
    refine lv_aload_n hx hb dX0_setRoot_20 rfl (lv_at hl 0 rfl) ?_
    refine va_get (D := (dC, dI)) (ci := 0) (v := .int (σ.2 16 k)) (C := RX0) (T := TX0) (N := 17) hx hb hts in_X0 hown hK hP 0 rfl rfl 15 (by decide) (hts _ q51) (fun _ h9 => h9) rfl dX0_setRoot_21 ?_
    refine lv_if_ge (tgt := 31) hx hb dX0_setRoot_24 (by decide) (fun c_24 => ?_) (fun c_24 => ?_)
    · refine lv_iconst (v := 1) hx hb dX0_setRoot_31 (by decide) ?_
      have hqr : 1 = (x_setRoot σ (nI k)).1 := by simp only [x_setRoot, leads, if_neg c_5, if_pos c_24, hkc]
      have hqs : setF σ 15 (σ.2 16 k) = (x_setRoot σ (nI k)).2 := by simp only [x_setRoot, leads, if_neg c_5, if_pos c_24, hkc]
      exact W.iret (v := 1) hx hb hr (fun t ht hW => ⟨⟨1, (setF σ 15 (σ.2 16 k)), rfl, ⟨hqr, hqs⟩, by rw [ht]; exact hP, va_K.moved hW.alike hK, hD⟩, hS.F ht⟩) hS.2.2 dX0_setRoot_32
    · refine lv_iconst (v := 0) hx hb dX0_setRoot_27 (by decide) ?_
      refine lv_goto (tgt := 32) hx hb dX0_setRoot_28 (by decide) ?_
      have hqr : 0 = (x_setRoot σ (nI k)).1 := by simp only [x_setRoot, leads, if_neg c_5, if_neg c_24, hkc]
      have hqs : setF σ 15 (σ.2 16 k) = (x_setRoot σ (nI k)).2 := by simp only [x_setRoot, leads, if_neg c_5, if_neg c_24, hkc]
      exact W.iret (v := 0) hx hb hr (fun t ht hW => ⟨⟨0, (setF σ 15 (σ.2 16 k)), rfl, ⟨hqr, hqs⟩, by rw [ht]; exact hP, va_K.moved hW.alike hK, hD⟩, hS.F ht⟩) hS.2.2 dX0_setRoot_32
  · refine lv_iconst (v := (-1)) hx hb dX0_setRoot_8 (by decide) ?_
    have hqr : (-1) = (x_setRoot σ p1).1 := by simp only [x_setRoot, leads, if_pos c_5]
    have hqs : σ = (x_setRoot σ p1).2 := by simp only [x_setRoot, leads, if_pos c_5]
    exact W.iret (v := (-1)) hx hb hr (fun t ht hW => ⟨⟨(-1), σ, rfl, ⟨hqr, hqs⟩, by rw [ht]; exact hP, va_K.moved hW.alike hK, hD⟩, hS.F ht⟩) hS.2.2 dX0_setRoot_9

set_option maxHeartbeats 4000000 in
theorem metX0_follow (l : Launch) (dC : Nat → ClassId) (dI : Nat → Nat → Nat) (h0 : Nat) (b : Nat → Nat) (cA : Nat → ClassId) (sz : Nat) (σ : XS) (p1 : Int32) (p2 : Int32) (p3 : Int32) (hok : okX σ) : MetI l yX0_follow (ws_ yX0_follow cX0_follow 5 (some .int)) ({ frames := 1, cells := 0, slots := 0, locals := 21 }) (dC, dI) (tX cA) (wX h0 b cA) h0 [.int p1, .int p2, .int p3] sz σ ((x_follow σ p1 p2 p3).1) ((x_follow σ p1 p2 p3).2) := by
  refine Met.ofW (cc := cX0_follow) (maxL := 5) (ret := (some .int)) (by decide) rfl ?_
  intro p e s m args below meth c s₁ B hml hv
  obtain ⟨rfl, hsz, hP, hK, hD0⟩ := hv
  have hx := B.exec
  have hb := B.bytes
  have hr := B.returns
  have hts := atoms_spec (ws := (ws_ yX0_follow cX0_follow 5 (some .int))) B.pre
  have hts : ∀ w ∈ lw_all, w.before _ s = true := fun w h => hts w (List.mem_cons_of_mem _ h)
  have hown : s.vm.findClass RX0 = some m.cls := findClass_of_methodNamed B.named
  have hlocks := B.notSynchronized
  subst hsz
  have hD := hD0.self (sz := s.heap.size)
  generalize hAe : va_A (wX h0 b cA σ) s.heap.size = A at hD ⊢
  have hA : ∀ q : Nat, s.heap.size ≤ q → A q := fun q h => by rw [← hAe]; exact Or.inr h
  have hS : va_S A s.heap s.heap [] := va_S.rf
  have hl := lv_entry ([.ref h0, .int p1, .int p2, .int p3]) (n := 5) (Nat.le_of_ble_eq_true rfl)
  rw [lg_entry_eq]
  generalize (lg_sl ([.ref h0, .int p1, .int p2, .int p3]) ++ List.replicate (5 - (lg_sl ([.ref h0, .int p1, .int p2, .int p3])).length) Slot.unset).toArray = ls at hl ⊢
  have hl : lv_has ls 5 [(0, .ref h0), (1, .int p1), (2, .int p2), (3, .int p3)] := hl
  refine lv_aload_n hx hb dX0_follow_0 rfl (lv_at hl 0 rfl) ?_
  refine lv_iload_n hx hb dX0_follow_1 rfl (lv_at hl 1 rfl) ?_
  refine ca_i (D := (dC, dI)) (wf := wX h0 b cA) hx hb hml hown hts (metX0_isHandle l dC dI h0 b cA _ σ p1) (cwV 1 hts (lw_V q94 q96 qs0 q26 q97) rfl rfl rfl (by decide +kernel) ⟨Nat.le_of_ble_eq_true rfl, Nat.le_of_ble_eq_true rfl⟩) hK hP hD hS hA 0 0 rfl rfl rfl hl.1 rfl (lv_room (Nat.le_of_ble_eq_true rfl)) dX0_follow_2 ⟨Nat.le_of_ble_eq_true rfl, Nat.le_of_ble_eq_true rfl⟩ (fun H locs hP hD hS => ?_)
  refine lv_if_eq (tgt := 25) hx hb dX0_follow_5 (by decide) (fun c_5 => ?_) (fun c_5 => ?_)
  · refine lv_iconst (v := (-1)) hx hb dX0_follow_25 (by decide) ?_
    have hqr : (-1) = (x_follow σ p1 p2 p3).1 := by simp only [x_follow, x_fol, leads, if_pos c_5]
    have hqs : σ = (x_follow σ p1 p2 p3).2 := by simp only [x_follow, x_fol, leads, if_pos c_5]
    exact W.iret (v := (-1)) hx hb hr (fun t ht hW => ⟨⟨(-1), σ, rfl, ⟨hqr, hqs⟩, by rw [ht]; exact hP, va_K.moved hW.alike hK, hD⟩, hS.F ht⟩) hS.2.2 dX0_follow_26
  · refine lv_aload_n hx hb dX0_follow_8 rfl (lv_at hl 0 rfl) ?_
    refine lv_iload_n hx hb dX0_follow_9 rfl (lv_at hl 2 rfl) ?_
    refine ca_i (D := (dC, dI)) (wf := wX h0 b cA) hx hb hml hown hts (metX0_isHandle l dC dI h0 b cA _ σ p2) (cwV 1 hts (lw_V q94 q96 qs0 q26 q97) rfl rfl rfl (by decide +kernel) ⟨Nat.le_of_ble_eq_true rfl, Nat.le_of_ble_eq_true rfl⟩) hK hP hD hS hA 0 0 rfl rfl rfl hl.1 rfl (lv_room (Nat.le_of_ble_eq_true rfl)) dX0_follow_10 ⟨Nat.le_of_ble_eq_true rfl, Nat.le_of_ble_eq_true rfl⟩ (fun H locs hP hD hS => ?_)
    refine lv_if_eq (tgt := 25) hx hb dX0_follow_13 (by decide) (fun c_13 => ?_) (fun c_13 => ?_)
    · refine lv_iconst (v := (-1)) hx hb dX0_follow_25 (by decide) ?_
      have hqr : (-1) = (x_follow σ p1 p2 p3).1 := by simp only [x_follow, x_fol, leads, if_neg c_5, if_pos c_13]
      have hqs : σ = (x_follow σ p1 p2 p3).2 := by simp only [x_follow, x_fol, leads, if_neg c_5, if_pos c_13]
      exact W.iret (v := (-1)) hx hb hr (fun t ht hW => ⟨⟨(-1), σ, rfl, ⟨hqr, hqs⟩, by rw [ht]; exact hP, va_K.moved hW.alike hK, hD⟩, hS.F ht⟩) hS.2.2 dX0_follow_26
    · refine lv_iload_n hx hb dX0_follow_16 rfl (lv_at hl 3 rfl) ?_
      refine lv_if_lt (tgt := 25) hx hb dX0_follow_17 (by decide) (fun c_17 => ?_) (fun c_17 => ?_)
      · refine lv_iconst (v := (-1)) hx hb dX0_follow_25 (by decide) ?_
        have hqr : (-1) = (x_follow σ p1 p2 p3).1 := by simp only [x_follow, x_fol, leads, if_neg c_5, if_neg c_13, if_pos c_17]
        have hqs : σ = (x_follow σ p1 p2 p3).2 := by simp only [x_follow, x_fol, leads, if_neg c_5, if_neg c_13, if_pos c_17]
        exact W.iret (v := (-1)) hx hb hr (fun t ht hW => ⟨⟨(-1), σ, rfl, ⟨hqr, hqs⟩, by rw [ht]; exact hP, va_K.moved hW.alike hK, hD⟩, hS.F ht⟩) hS.2.2 dX0_follow_26
      · refine lv_iload_n hx hb dX0_follow_20 rfl (lv_at hl 3 rfl) ?_
        refine lv_iconst (v := 1) hx hb dX0_follow_21 (by decide) ?_
        refine lv_icmp_le (tgt := 27) hx hb dX0_follow_22 (by decide) (fun c_22 => ?_) (fun c_22 => ?_)
        · obtain ⟨k1, hk1, rfl⟩ := isH_in c_5
          obtain ⟨k2, hk2, rfl⟩ := isH_in c_13
          obtain ⟨w, hw, rfl⟩ := w_in c_17 c_22
          have hk1c : (nI k1).toNatClampNeg = k1 := nI_clamp (by omega)
          have hk2c : (nI k2).toNatClampNeg = k2 := nI_clamp (by omega)
          have hwc : (nI w).toNatClampNeg = w := nI_clamp (by omega)
          refine lv_aload_n hx hb dX0_follow_27 rfl (lv_at hl 0 rfl) ?_
          refine va_get (D := (dC, dI)) (ci := 0) (v := .ref (b 16)) (C := RX0) (T := TX0) (N := 17) hx hb hts in_X0 hown hK hP 0 rfl rfl 16 (by decide) (hts _ q52) (fun _ h9 => h9) rfl dX0_follow_28 ?_
          refine lv_iload_n hx hb dX0_follow_31 rfl (lv_at hl 2 rfl) ?_
          refine xa_bald (D := (dC, dI)) (f := σ.2 16) hx hb hK hP 8 7 rfl rfl k2 rfl (by omega) (by decide) dX0_follow_32 ?_
          refine lv_if_ge (tgt := 39) hx hb dX0_follow_33 (by decide) (fun c_33 => ?_) (fun c_33 => ?_)
          · obtain ⟨j, hj, ej⟩ := okv_nn (hok.2.2.2.1 k2) c_33
            rw [ej] at c_33
            have hjc : (nI j).toNatClampNeg = j := nI_clamp (by omega)
            refine lv_aload_n hx hb dX0_follow_39 rfl (lv_at hl 0 rfl) ?_
            refine va_get (D := (dC, dI)) (ci := 0) (v := .ref (b 16)) (C := RX0) (T := TX0) (N := 17) hx hb hts in_X0 hown hK hP 0 rfl rfl 16 (by decide) (hts _ q52) (fun _ h9 => h9) rfl dX0_follow_40 ?_
            refine lv_iload_n hx hb dX0_follow_43 rfl (lv_at hl 2 rfl) ?_
            refine xa_bald (D := (dC, dI)) (f := σ.2 16) hx hb hK hP 8 7 rfl rfl k2 rfl (by omega) (by decide) dX0_follow_44 ?_
            refine lv_tope (ej) ?_
            refine lv_istore (lv' := [(4, .int (nI j)), (0, .ref h0), (1, .int (nI k1)), (2, .int (nI k2)), (3, .int (nI w))]) hx hb dX0_follow_45 hl (by decide) rfl (fun ls hl => ?_)
            refine lv_aload_n hx hb dX0_follow_47 rfl (lv_at hl 1 rfl) ?_
            refine lv_iload hx hb dX0_follow_48 (lv_at hl 0 rfl) ?_
            refine ca_v (D := (dC, dI)) (wf := wX h0 b cA) hx hb hml hown hts (metX0_bringIn l dC dI h0 b cA _ σ j (by omega) hok) (cwV 1 hts (lw_V q130 q132 qs6 q26 q133) rfl rfl rfl (by decide +kernel) ⟨Nat.le_of_ble_eq_true rfl, Nat.le_of_ble_eq_true rfl⟩) hK hP hD hS hA 0 0 rfl rfl rfl hl.1 rfl (lv_room (Nat.le_of_ble_eq_true rfl)) dX0_follow_50 ⟨Nat.le_of_ble_eq_true rfl, Nat.le_of_ble_eq_true rfl⟩ (fun H locs hP hD hS => ?_)
            refine lv_aload_n hx hb dX0_follow_53 rfl (lv_at hl 1 rfl) ?_
            refine va_get (D := (dC, dI)) (ci := 0) (v := .ref (b 16)) (C := RX0) (T := TX0) (N := 17) hx hb hts in_X0 hown hK hP 0 rfl rfl 16 (by decide) (hts _ q52) (fun _ h9 => h9) rfl dX0_follow_54 ?_
            refine lv_iload_n hx hb dX0_follow_57 rfl (lv_at hl 2 rfl) ?_
            refine lv_aload_n hx hb dX0_follow_58 rfl (lv_at hl 1 rfl) ?_
            refine va_get (D := (dC, dI)) (ci := 0) (v := .ref (b 13)) (C := RX0) (T := TX0) (N := 17) hx hb hts in_X0 hown hK hP 0 rfl rfl 13 (by decide) (hts _ q49) (fun _ h9 => h9) rfl dX0_follow_59 ?_
            refine lv_iconst (v := 2) hx hb dX0_follow_62 (by decide) ?_
            refine lv_iload hx hb dX0_follow_63 (lv_at hl 0 rfl) ?_
            refine lv_imul hx hb dX0_follow_65 ?_
            refine lv_tope (e2m _) ?_
            refine lv_iload_n hx hb dX0_follow_66 rfl (lv_at hl 4 rfl) ?_
            refine lv_iadd hx hb dX0_follow_67 ?_
            refine lv_tope (nI_add _ _) ?_
            refine xa_bald (D := (dC, dI)) (f := (x_bring σ j).2 13) hx hb hK hP 7 6 rfl rfl (2 * j + w) rfl (by omega) (by decide) dX0_follow_68 ?_
            refine xa_bast (D := (dC, dI)) (f := (x_bring σ j).2 16) hx hb hK hP hD hS 8 7 rfl rfl k1 rfl (by omega) (by decide) (okv_byte ((okX_bring j hok).2.1 _)) dX0_follow_69 (fun H locs hP hD hS => ?_)
            have hP : va_P (dC, dI) vwCl (wX h0 b cA (setA (x_bring σ j) 16 k1 ((x_bring σ j).2 13 (2 * j + w)))) H := hP
            have hD : va_D A (wX h0 b cA (setA (x_bring σ j) 16 k1 ((x_bring σ j).2 13 (2 * j + w)))) := hD
            refine lv_aload_n hx hb dX0_follow_70 rfl (lv_at hl 1 rfl) ?_
            refine va_get (D := (dC, dI)) (ci := 0) (v := .ref (b 16)) (C := RX0) (T := TX0) (N := 17) hx hb hts in_X0 hown hK hP 0 rfl rfl 16 (by decide) (hts _ q52) (fun _ h9 => h9) rfl dX0_follow_71 ?_
            refine lv_iload_n hx hb dX0_follow_74 rfl (lv_at hl 2 rfl) ?_
            refine xa_bald (D := (dC, dI)) (f := (setA (x_bring σ j) 16 k1 ((x_bring σ j).2 13 (2 * j + w))).2 16) hx hb hK hP 8 7 rfl rfl k1 rfl (by omega) (by decide) dX0_follow_75 ?_
            refine lv_tope (setA_same _ _ _ _) ?_
            refine lv_if_ge (tgt := 83) hx hb dX0_follow_76 (by decide) (fun c_76 => ?_) (fun c_76 => ?_)
            · refine lv_iconst (v := 1) hx hb dX0_follow_83 (by decide) ?_
              have hqr : 1 = (x_follow σ (nI k1) (nI k2) (nI w)).1 := by simp only [x_follow, x_fol, leads, if_neg c_5, if_neg c_13, if_neg c_17, if_pos c_22, if_pos c_33, if_pos c_76, hk1c, hk2c, hwc, ej, hjc]
              have hqs : setA (x_bring σ j) 16 k1 ((x_bring σ j).2 13 (2 * j + w)) = (x_follow σ (nI k1) (nI k2) (nI w)).2 := by simp only [x_follow, x_fol, leads, if_neg c_5, if_neg c_13, if_neg c_17, if_pos c_22, if_pos c_33, if_pos c_76, hk1c, hk2c, hwc, ej, hjc]
              exact W.iret (v := 1) hx hb hr (fun t ht hW => ⟨⟨1, (setA (x_bring σ j) 16 k1 ((x_bring σ j).2 13 (2 * j + w))), rfl, ⟨hqr, hqs⟩, by rw [ht]; exact hP, va_K.moved hW.alike hK, hD⟩, hS.F ht⟩) hS.2.2 dX0_follow_84
            · refine lv_iconst (v := 0) hx hb dX0_follow_79 (by decide) ?_
              refine lv_goto (tgt := 84) hx hb dX0_follow_80 (by decide) ?_
              have hqr : 0 = (x_follow σ (nI k1) (nI k2) (nI w)).1 := by simp only [x_follow, x_fol, leads, if_neg c_5, if_neg c_13, if_neg c_17, if_pos c_22, if_pos c_33, if_neg c_76, hk1c, hk2c, hwc, ej, hjc]
              have hqs : setA (x_bring σ j) 16 k1 ((x_bring σ j).2 13 (2 * j + w)) = (x_follow σ (nI k1) (nI k2) (nI w)).2 := by simp only [x_follow, x_fol, leads, if_neg c_5, if_neg c_13, if_neg c_17, if_pos c_22, if_pos c_33, if_neg c_76, hk1c, hk2c, hwc, ej, hjc]
              exact W.iret (v := 0) hx hb hr (fun t ht hW => ⟨⟨0, (setA (x_bring σ j) 16 k1 ((x_bring σ j).2 13 (2 * j + w))), rfl, ⟨hqr, hqs⟩, by rw [ht]; exact hP, va_K.moved hW.alike hK, hD⟩, hS.F ht⟩) hS.2.2 dX0_follow_84
          · refine lv_bipush (v := (-3)) hx hb dX0_follow_36 (by decide) ?_
            have hqr : (-3) = (x_follow σ (nI k1) (nI k2) (nI w)).1 := by simp only [x_follow, x_fol, leads, if_neg c_5, if_neg c_13, if_neg c_17, if_pos c_22, if_neg c_33, hk1c, hk2c, hwc]
            have hqs : σ = (x_follow σ (nI k1) (nI k2) (nI w)).2 := by simp only [x_follow, x_fol, leads, if_neg c_5, if_neg c_13, if_neg c_17, if_pos c_22, if_neg c_33, hk1c, hk2c, hwc]
            exact W.iret (v := (-3)) hx hb hr (fun t ht hW => ⟨⟨(-3), σ, rfl, ⟨hqr, hqs⟩, by rw [ht]; exact hP, va_K.moved hW.alike hK, hD⟩, hS.F ht⟩) hS.2.2 dX0_follow_38
        · refine lv_iconst (v := (-1)) hx hb dX0_follow_25 (by decide) ?_
          have hqr : (-1) = (x_follow σ p1 p2 p3).1 := by simp only [x_follow, x_fol, leads, if_neg c_5, if_neg c_13, if_neg c_17, if_neg c_22]
          have hqs : σ = (x_follow σ p1 p2 p3).2 := by simp only [x_follow, x_fol, leads, if_neg c_5, if_neg c_13, if_neg c_17, if_neg c_22]
          exact W.iret (v := (-1)) hx hb hr (fun t ht hW => ⟨⟨(-1), σ, rfl, ⟨hqr, hqs⟩, by rw [ht]; exact hP, va_K.moved hW.alike hK, hD⟩, hS.F ht⟩) hS.2.2 dX0_follow_26

set_option maxHeartbeats 4000000 in
theorem metX0_link (l : Launch) (dC : Nat → ClassId) (dI : Nat → Nat → Nat) (h0 : Nat) (b : Nat → Nat) (cA : Nat → ClassId) (sz : Nat) (σ : XS) (p1 : Int32) (p2 : Int32) (p3 : Int32) (hok : okX σ) : MetI l yX0_link (ws_ yX0_link cX0_link 5 (some .int)) ({ frames := 1, cells := 0, slots := 0, locals := 21 }) (dC, dI) (tX cA) (wX h0 b cA) h0 [.int p1, .int p2, .int p3] sz σ ((x_linkM σ p1 p2 p3).1) ((x_linkM σ p1 p2 p3).2) := by
  refine Met.ofW (cc := cX0_link) (maxL := 5) (ret := (some .int)) (by decide) rfl ?_
  intro p e s m args below meth c s₁ B hml hv
  obtain ⟨rfl, hsz, hP, hK, hD0⟩ := hv
  have hx := B.exec
  have hb := B.bytes
  have hr := B.returns
  have hts := atoms_spec (ws := (ws_ yX0_link cX0_link 5 (some .int))) B.pre
  have hts : ∀ w ∈ lw_all, w.before _ s = true := fun w h => hts w (List.mem_cons_of_mem _ h)
  have hown : s.vm.findClass RX0 = some m.cls := findClass_of_methodNamed B.named
  have hlocks := B.notSynchronized
  subst hsz
  have hD := hD0.self (sz := s.heap.size)
  generalize hAe : va_A (wX h0 b cA σ) s.heap.size = A at hD ⊢
  have hA : ∀ q : Nat, s.heap.size ≤ q → A q := fun q h => by rw [← hAe]; exact Or.inr h
  have hS : va_S A s.heap s.heap [] := va_S.rf
  have hl := lv_entry ([.ref h0, .int p1, .int p2, .int p3]) (n := 5) (Nat.le_of_ble_eq_true rfl)
  rw [lg_entry_eq]
  generalize (lg_sl ([.ref h0, .int p1, .int p2, .int p3]) ++ List.replicate (5 - (lg_sl ([.ref h0, .int p1, .int p2, .int p3])).length) Slot.unset).toArray = ls at hl ⊢
  have hl : lv_has ls 5 [(0, .ref h0), (1, .int p1), (2, .int p2), (3, .int p3)] := hl
  refine lv_aload_n hx hb dX0_link_0 rfl (lv_at hl 0 rfl) ?_
  refine lv_iload_n hx hb dX0_link_1 rfl (lv_at hl 1 rfl) ?_
  refine ca_i (D := (dC, dI)) (wf := wX h0 b cA) hx hb hml hown hts (metX0_isHandle l dC dI h0 b cA _ σ p1) (cwV 1 hts (lw_V q94 q96 qs0 q26 q97) rfl rfl rfl (by decide +kernel) ⟨Nat.le_of_ble_eq_true rfl, Nat.le_of_ble_eq_true rfl⟩) hK hP hD hS hA 0 0 rfl rfl rfl hl.1 rfl (lv_room (Nat.le_of_ble_eq_true rfl)) dX0_link_2 ⟨Nat.le_of_ble_eq_true rfl, Nat.le_of_ble_eq_true rfl⟩ (fun H locs hP hD hS => ?_)
  refine lv_if_eq (tgt := 25) hx hb dX0_link_5 (by decide) (fun c_5 => ?_) (fun c_5 => ?_)
  · refine lv_iconst (v := (-1)) hx hb dX0_link_25 (by decide) ?_
    have hqr : (-1) = (x_linkM σ p1 p2 p3).1 := by simp only [x_linkM, x_lnk, leads, if_pos c_5]
    have hqs : σ = (x_linkM σ p1 p2 p3).2 := by simp only [x_linkM, x_lnk, leads, if_pos c_5]
    exact W.iret (v := (-1)) hx hb hr (fun t ht hW => ⟨⟨(-1), σ, rfl, ⟨hqr, hqs⟩, by rw [ht]; exact hP, va_K.moved hW.alike hK, hD⟩, hS.F ht⟩) hS.2.2 dX0_link_26
  · refine lv_aload_n hx hb dX0_link_8 rfl (lv_at hl 0 rfl) ?_
    refine lv_iload_n hx hb dX0_link_9 rfl (lv_at hl 3 rfl) ?_
    refine ca_i (D := (dC, dI)) (wf := wX h0 b cA) hx hb hml hown hts (metX0_isHandle l dC dI h0 b cA _ σ p3) (cwV 1 hts (lw_V q94 q96 qs0 q26 q97) rfl rfl rfl (by decide +kernel) ⟨Nat.le_of_ble_eq_true rfl, Nat.le_of_ble_eq_true rfl⟩) hK hP hD hS hA 0 0 rfl rfl rfl hl.1 rfl (lv_room (Nat.le_of_ble_eq_true rfl)) dX0_link_10 ⟨Nat.le_of_ble_eq_true rfl, Nat.le_of_ble_eq_true rfl⟩ (fun H locs hP hD hS => ?_)
    refine lv_if_eq (tgt := 25) hx hb dX0_link_13 (by decide) (fun c_13 => ?_) (fun c_13 => ?_)
    · refine lv_iconst (v := (-1)) hx hb dX0_link_25 (by decide) ?_
      have hqr : (-1) = (x_linkM σ p1 p2 p3).1 := by simp only [x_linkM, x_lnk, leads, if_neg c_5, if_pos c_13]
      have hqs : σ = (x_linkM σ p1 p2 p3).2 := by simp only [x_linkM, x_lnk, leads, if_neg c_5, if_pos c_13]
      exact W.iret (v := (-1)) hx hb hr (fun t ht hW => ⟨⟨(-1), σ, rfl, ⟨hqr, hqs⟩, by rw [ht]; exact hP, va_K.moved hW.alike hK, hD⟩, hS.F ht⟩) hS.2.2 dX0_link_26
    · refine lv_iload_n hx hb dX0_link_16 rfl (lv_at hl 2 rfl) ?_
      refine lv_if_lt (tgt := 25) hx hb dX0_link_17 (by decide) (fun c_17 => ?_) (fun c_17 => ?_)
      · refine lv_iconst (v := (-1)) hx hb dX0_link_25 (by decide) ?_
        have hqr : (-1) = (x_linkM σ p1 p2 p3).1 := by simp only [x_linkM, x_lnk, leads, if_neg c_5, if_neg c_13, if_pos c_17]
        have hqs : σ = (x_linkM σ p1 p2 p3).2 := by simp only [x_linkM, x_lnk, leads, if_neg c_5, if_neg c_13, if_pos c_17]
        exact W.iret (v := (-1)) hx hb hr (fun t ht hW => ⟨⟨(-1), σ, rfl, ⟨hqr, hqs⟩, by rw [ht]; exact hP, va_K.moved hW.alike hK, hD⟩, hS.F ht⟩) hS.2.2 dX0_link_26
      · refine lv_iload_n hx hb dX0_link_20 rfl (lv_at hl 2 rfl) ?_
        refine lv_iconst (v := 1) hx hb dX0_link_21 (by decide) ?_
        refine lv_icmp_le (tgt := 27) hx hb dX0_link_22 (by decide) (fun c_22 => ?_) (fun c_22 => ?_)
        · obtain ⟨k1, hk1, rfl⟩ := isH_in c_5
          obtain ⟨k2, hk2, rfl⟩ := isH_in c_13
          obtain ⟨w, hw, rfl⟩ := w_in c_17 c_22
          have hk1c : (nI k1).toNatClampNeg = k1 := nI_clamp (by omega)
          have hk2c : (nI k2).toNatClampNeg = k2 := nI_clamp (by omega)
          have hwc : (nI w).toNatClampNeg = w := nI_clamp (by omega)
          refine lv_aload_n hx hb dX0_link_27 rfl (lv_at hl 0 rfl) ?_
          refine va_get (D := (dC, dI)) (ci := 0) (v := .ref (b 16)) (C := RX0) (T := TX0) (N := 17) hx hb hts in_X0 hown hK hP 0 rfl rfl 16 (by decide) (hts _ q52) (fun _ h9 => h9) rfl dX0_link_28 ?_
          refine lv_iload_n hx hb dX0_link_31 rfl (lv_at hl 1 rfl) ?_
          refine xa_bald (D := (dC, dI)) (f := σ.2 16) hx hb hK hP 8 7 rfl rfl k1 rfl (by omega) (by decide) dX0_link_32 ?_
          refine lv_if_ge (tgt := 39) hx hb dX0_link_33 (by decide) (fun c_33 => ?_) (fun c_33 => ?_)
          · obtain ⟨j, hj, ej⟩ := okv_nn (hok.2.2.2.1 k1) c_33
            rw [ej] at c_33
            have hjc : (nI j).toNatClampNeg = j := nI_clamp (by omega)
            refine lv_aload_n hx hb dX0_link_39 rfl (lv_at hl 0 rfl) ?_
            refine va_get (D := (dC, dI)) (ci := 0) (v := .ref (b 16)) (C := RX0) (T := TX0) (N := 17) hx hb hts in_X0 hown hK hP 0 rfl rfl 16 (by decide) (hts _ q52) (fun _ h9 => h9) rfl dX0_link_40 ?_
            refine lv_iload_n hx hb dX0_link_43 rfl (lv_at hl 1 rfl) ?_
            refine xa_bald (D := (dC, dI)) (f := σ.2 16) hx hb hK hP 8 7 rfl rfl k1 rfl (by omega) (by decide) dX0_link_44 ?_
            refine lv_tope (ej) ?_
            refine lv_istore (lv' := [(4, .int (nI j)), (0, .ref h0), (1, .int (nI k1)), (2, .int (nI w)), (3, .int (nI k2))]) hx hb dX0_link_45 hl (by decide) rfl (fun ls hl => ?_)
            refine lv_aload_n hx hb dX0_link_47 rfl (lv_at hl 1 rfl) ?_
            refine lv_iload hx hb dX0_link_48 (lv_at hl 0 rfl) ?_
            refine ca_v (D := (dC, dI)) (wf := wX h0 b cA) hx hb hml hown hts (metX0_bringIn l dC dI h0 b cA _ σ j (by omega) hok) (cwV 1 hts (lw_V q130 q132 qs6 q26 q133) rfl rfl rfl (by decide +kernel) ⟨Nat.le_of_ble_eq_true rfl, Nat.le_of_ble_eq_true rfl⟩) hK hP hD hS hA 0 0 rfl rfl rfl hl.1 rfl (lv_room (Nat.le_of_ble_eq_true rfl)) dX0_link_50 ⟨Nat.le_of_ble_eq_true rfl, Nat.le_of_ble_eq_true rfl⟩ (fun H locs hP hD hS => ?_)
            refine lv_aload_n hx hb dX0_link_53 rfl (lv_at hl 1 rfl) ?_
            refine va_get (D := (dC, dI)) (ci := 0) (v := .ref (b 13)) (C := RX0) (T := TX0) (N := 17) hx hb hts in_X0 hown hK hP 0 rfl rfl 13 (by decide) (hts _ q49) (fun _ h9 => h9) rfl dX0_link_54 ?_
            refine lv_iconst (v := 2) hx hb dX0_link_57 (by decide) ?_
            refine lv_iload hx hb dX0_link_58 (lv_at hl 0 rfl) ?_
            refine lv_imul hx hb dX0_link_60 ?_
            refine lv_tope (e2m _) ?_
            refine lv_iload_n hx hb dX0_link_61 rfl (lv_at hl 3 rfl) ?_
            refine lv_iadd hx hb dX0_link_62 ?_
            refine lv_tope (nI_add _ _) ?_
            refine lv_aload_n hx hb dX0_link_63 rfl (lv_at hl 1 rfl) ?_
            refine va_get (D := (dC, dI)) (ci := 0) (v := .ref (b 16)) (C := RX0) (T := TX0) (N := 17) hx hb hts in_X0 hown hK hP 0 rfl rfl 16 (by decide) (hts _ q52) (fun _ h9 => h9) rfl dX0_link_64 ?_
            refine lv_iload_n hx hb dX0_link_67 rfl (lv_at hl 4 rfl) ?_
            refine xa_bald (D := (dC, dI)) (f := (x_bring σ j).2 16) hx hb hK hP 8 7 rfl rfl k2 rfl (by omega) (by decide) dX0_link_68 ?_
            refine xa_bast (D := (dC, dI)) (f := (x_bring σ j).2 13) hx hb hK hP hD hS 7 6 rfl rfl (2 * j + w) rfl (by omega) (by decide) (okv_byte ((okX_bring j hok).2.2.2.1 _)) dX0_link_69 (fun H locs hP hD hS => ?_)
            have hP : va_P (dC, dI) vwCl (wX h0 b cA (setA (x_bring σ j) 13 (2 * j + w) ((x_bring σ j).2 16 k2))) H := hP
            have hD : va_D A (wX h0 b cA (setA (x_bring σ j) 13 (2 * j + w) ((x_bring σ j).2 16 k2))) := hD
            refine lv_aload_n hx hb dX0_link_70 rfl (lv_at hl 1 rfl) ?_
            refine va_get (D := (dC, dI)) (ci := 0) (v := .ref (b 16)) (C := RX0) (T := TX0) (N := 17) hx hb hts in_X0 hown hK hP 0 rfl rfl 16 (by decide) (hts _ q52) (fun _ h9 => h9) rfl dX0_link_71 ?_
            refine lv_iload_n hx hb dX0_link_74 rfl (lv_at hl 4 rfl) ?_
            refine xa_bald (D := (dC, dI)) (f := (x_bring σ j).2 16) hx hb hK hP 8 7 rfl rfl k2 rfl (by omega) (by decide) dX0_link_75 ?_
            refine lv_if_ge (tgt := 83) hx hb dX0_link_76 (by decide) (fun c_76 => ?_) (fun c_76 => ?_)
            · refine lv_iconst (v := 1) hx hb dX0_link_83 (by decide) ?_
              have hqr : 1 = (x_linkM σ (nI k1) (nI w) (nI k2)).1 := by simp only [x_linkM, x_lnk, leads, if_neg c_5, if_neg c_13, if_neg c_17, if_pos c_22, if_pos c_33, if_pos c_76, hk1c, hk2c, hwc, ej, hjc]
              have hqs : setA (x_bring σ j) 13 (2 * j + w) ((x_bring σ j).2 16 k2) = (x_linkM σ (nI k1) (nI w) (nI k2)).2 := by simp only [x_linkM, x_lnk, leads, if_neg c_5, if_neg c_13, if_neg c_17, if_pos c_22, if_pos c_33, if_pos c_76, hk1c, hk2c, hwc, ej, hjc]
              exact W.iret (v := 1) hx hb hr (fun t ht hW => ⟨⟨1, (setA (x_bring σ j) 13 (2 * j + w) ((x_bring σ j).2 16 k2)), rfl, ⟨hqr, hqs⟩, by rw [ht]; exact hP, va_K.moved hW.alike hK, hD⟩, hS.F ht⟩) hS.2.2 dX0_link_84
            · refine lv_iconst (v := 0) hx hb dX0_link_79 (by decide) ?_
              refine lv_goto (tgt := 84) hx hb dX0_link_80 (by decide) ?_
              have hqr : 0 = (x_linkM σ (nI k1) (nI w) (nI k2)).1 := by simp only [x_linkM, x_lnk, leads, if_neg c_5, if_neg c_13, if_neg c_17, if_pos c_22, if_pos c_33, if_neg c_76, hk1c, hk2c, hwc, ej, hjc]
              have hqs : setA (x_bring σ j) 13 (2 * j + w) ((x_bring σ j).2 16 k2) = (x_linkM σ (nI k1) (nI w) (nI k2)).2 := by simp only [x_linkM, x_lnk, leads, if_neg c_5, if_neg c_13, if_neg c_17, if_pos c_22, if_pos c_33, if_neg c_76, hk1c, hk2c, hwc, ej, hjc]
              exact W.iret (v := 0) hx hb hr (fun t ht hW => ⟨⟨0, (setA (x_bring σ j) 13 (2 * j + w) ((x_bring σ j).2 16 k2)), rfl, ⟨hqr, hqs⟩, by rw [ht]; exact hP, va_K.moved hW.alike hK, hD⟩, hS.F ht⟩) hS.2.2 dX0_link_84
          · refine lv_bipush (v := (-3)) hx hb dX0_link_36 (by decide) ?_
            have hqr : (-3) = (x_linkM σ (nI k1) (nI w) (nI k2)).1 := by simp only [x_linkM, x_lnk, leads, if_neg c_5, if_neg c_13, if_neg c_17, if_pos c_22, if_neg c_33, hk1c, hk2c, hwc]
            have hqs : σ = (x_linkM σ (nI k1) (nI w) (nI k2)).2 := by simp only [x_linkM, x_lnk, leads, if_neg c_5, if_neg c_13, if_neg c_17, if_pos c_22, if_neg c_33, hk1c, hk2c, hwc]
            exact W.iret (v := (-3)) hx hb hr (fun t ht hW => ⟨⟨(-3), σ, rfl, ⟨hqr, hqs⟩, by rw [ht]; exact hP, va_K.moved hW.alike hK, hD⟩, hS.F ht⟩) hS.2.2 dX0_link_38
        · refine lv_iconst (v := (-1)) hx hb dX0_link_25 (by decide) ?_
          have hqr : (-1) = (x_linkM σ p1 p2 p3).1 := by simp only [x_linkM, x_lnk, leads, if_neg c_5, if_neg c_13, if_neg c_17, if_neg c_22]
          have hqs : σ = (x_linkM σ p1 p2 p3).2 := by simp only [x_linkM, x_lnk, leads, if_neg c_5, if_neg c_13, if_neg c_17, if_neg c_22]
          exact W.iret (v := (-1)) hx hb hr (fun t ht hW => ⟨⟨(-1), σ, rfl, ⟨hqr, hqs⟩, by rw [ht]; exact hP, va_K.moved hW.alike hK, hD⟩, hS.F ht⟩) hS.2.2 dX0_link_26

set_option maxHeartbeats 4000000 in
theorem metX0_drop (l : Launch) (dC : Nat → ClassId) (dI : Nat → Nat → Nat) (h0 : Nat) (b : Nat → Nat) (cA : Nat → ClassId) (sz : Nat) (σ : XS) (p1 : Int32) (hok : okX σ) : MetI l yX0_drop (ws_ yX0_drop cX0_drop 3 (some .int)) ({ frames := 1, cells := 0, slots := 0, locals := 21 }) (dC, dI) (tX cA) (wX h0 b cA) h0 [.int p1] sz σ ((x_drop σ p1).1) ((x_drop σ p1).2) := by
  refine Met.ofW (cc := cX0_drop) (maxL := 3) (ret := (some .int)) (by decide) rfl ?_
  intro p e s m args below meth c s₁ B hml hv
  obtain ⟨rfl, hsz, hP, hK, hD0⟩ := hv
  have hx := B.exec
  have hb := B.bytes
  have hr := B.returns
  have hts := atoms_spec (ws := (ws_ yX0_drop cX0_drop 3 (some .int))) B.pre
  have hts : ∀ w ∈ lw_all, w.before _ s = true := fun w h => hts w (List.mem_cons_of_mem _ h)
  have hown : s.vm.findClass RX0 = some m.cls := findClass_of_methodNamed B.named
  have hlocks := B.notSynchronized
  subst hsz
  have hD := hD0.self (sz := s.heap.size)
  generalize hAe : va_A (wX h0 b cA σ) s.heap.size = A at hD ⊢
  have hA : ∀ q : Nat, s.heap.size ≤ q → A q := fun q h => by rw [← hAe]; exact Or.inr h
  have hS : va_S A s.heap s.heap [] := va_S.rf
  have hl := lv_entry ([.ref h0, .int p1]) (n := 3) (Nat.le_of_ble_eq_true rfl)
  rw [lg_entry_eq]
  generalize (lg_sl ([.ref h0, .int p1]) ++ List.replicate (3 - (lg_sl ([.ref h0, .int p1])).length) Slot.unset).toArray = ls at hl ⊢
  have hl : lv_has ls 3 [(0, .ref h0), (1, .int p1)] := hl
  refine lv_aload_n hx hb dX0_drop_0 rfl (lv_at hl 0 rfl) ?_
  refine lv_iload_n hx hb dX0_drop_1 rfl (lv_at hl 1 rfl) ?_
  refine ca_i (D := (dC, dI)) (wf := wX h0 b cA) hx hb hml hown hts (metX0_isHandle l dC dI h0 b cA _ σ p1) (cwV 1 hts (lw_V q94 q96 qs0 q26 q97) rfl rfl rfl (by decide +kernel) ⟨Nat.le_of_ble_eq_true rfl, Nat.le_of_ble_eq_true rfl⟩) hK hP hD hS hA 0 0 rfl rfl rfl hl.1 rfl (lv_room (Nat.le_of_ble_eq_true rfl)) dX0_drop_2 ⟨Nat.le_of_ble_eq_true rfl, Nat.le_of_ble_eq_true rfl⟩ (fun H locs hP hD hS => ?_)
  refine lv_if_ne (tgt := 10) hx hb dX0_drop_5 (by decide) (fun c_5 => ?_) (fun c_5 => ?_)
  · obtain ⟨k, hk, rfl⟩ := isH_in c_5
    have hkc : (nI k).toNatClampNeg = k := nI_clamp (by omega)
    refine lv_aload_n hx hb dX0_drop_10 rfl (lv_at hl 0 rfl) ?_
    refine va_get (D := (dC, dI)) (ci := 0) (v := .ref (b 16)) (C := RX0) (T := TX0) (N := 17) hx hb hts in_X0 hown hK hP 0 rfl rfl 16 (by decide) (hts _ q52) (fun _ h9 => h9) rfl dX0_drop_11 ?_
    refine lv_iload_n hx hb dX0_drop_14 rfl (lv_at hl 1 rfl) ?_
    refine xa_bald (D := (dC, dI)) (f := σ.2 16) hx hb hK hP 8 7 rfl rfl k rfl (by omega) (by decide) dX0_drop_15 ?_
    refine lv_istore_n (lv' := [(2, .int (σ.2 16 k)), (0, .ref h0), (1, .int (nI k))]) hx hb dX0_drop_16 rfl hl (by decide) rfl (fun ls hl => ?_)
    refine lv_aload_n hx hb dX0_drop_17 rfl (lv_at hl 1 rfl) ?_
    refine va_get (D := (dC, dI)) (ci := 0) (v := .ref (b 16)) (C := RX0) (T := TX0) (N := 17) hx hb hts in_X0 hown hK hP 0 rfl rfl 16 (by decide) (hts _ q52) (fun _ h9 => h9) rfl dX0_drop_18 ?_
    refine lv_iload_n hx hb dX0_drop_21 rfl (lv_at hl 2 rfl) ?_
    refine lv_iconst (v := (-1)) hx hb dX0_drop_22 (by decide) ?_
    refine xa_bast (D := (dC, dI)) (f := σ.2 16) hx hb hK hP hD hS 8 7 rfl rfl k rfl (by omega) (by decide) (by decide +kernel) dX0_drop_23 (fun H locs hP hD hS => ?_)
    have hP : va_P (dC, dI) vwCl (wX h0 b cA (setA σ 16 k (-1))) H := hP
    have hD : va_D A (wX h0 b cA (setA σ 16 k (-1))) := hD
    refine lv_iload_n hx hb dX0_drop_24 rfl (lv_at hl 0 rfl) ?_
    refine lv_if_ge (tgt := 32) hx hb dX0_drop_25 (by decide) (fun c_25 => ?_) (fun c_25 => ?_)
    · refine lv_iconst (v := 1) hx hb dX0_drop_32 (by decide) ?_
      have hqr : 1 = (x_drop σ (nI k)).1 := by simp only [x_drop, leads, if_neg c_5, if_pos c_25, hkc]
      have hqs : setA σ 16 k (-1) = (x_drop σ (nI k)).2 := by simp only [x_drop, leads, if_neg c_5, if_pos c_25, hkc]
      exact W.iret (v := 1) hx hb hr (fun t ht hW => ⟨⟨1, (setA σ 16 k (-1)), rfl, ⟨hqr, hqs⟩, by rw [ht]; exact hP, va_K.moved hW.alike hK, hD⟩, hS.F ht⟩) hS.2.2 dX0_drop_33
    · refine lv_iconst (v := 0) hx hb dX0_drop_28 (by decide) ?_
      refine lv_goto (tgt := 33) hx hb dX0_drop_29 (by decide) ?_
      have hqr : 0 = (x_drop σ (nI k)).1 := by simp only [x_drop, leads, if_neg c_5, if_neg c_25, hkc]
      have hqs : setA σ 16 k (-1) = (x_drop σ (nI k)).2 := by simp only [x_drop, leads, if_neg c_5, if_neg c_25, hkc]
      exact W.iret (v := 0) hx hb hr (fun t ht hW => ⟨⟨0, (setA σ 16 k (-1)), rfl, ⟨hqr, hqs⟩, by rw [ht]; exact hP, va_K.moved hW.alike hK, hD⟩, hS.F ht⟩) hS.2.2 dX0_drop_33
  · refine lv_iconst (v := (-1)) hx hb dX0_drop_8 (by decide) ?_
    have hqr : (-1) = (x_drop σ p1).1 := by simp only [x_drop, leads, if_pos c_5]
    have hqs : σ = (x_drop σ p1).2 := by simp only [x_drop, leads, if_pos c_5]
    exact W.iret (v := (-1)) hx hb hr (fun t ht hW => ⟨⟨(-1), σ, rfl, ⟨hqr, hqs⟩, by rw [ht]; exact hP, va_K.moved hW.alike hK, hD⟩, hS.F ht⟩) hS.2.2 dX0_drop_9

set_option maxHeartbeats 4000000 in
theorem metX0_value (l : Launch) (dC : Nat → ClassId) (dI : Nat → Nat → Nat) (h0 : Nat) (b : Nat → Nat) (cA : Nat → ClassId) (sz : Nat) (σ : XS) (p1 : Int32) (hok : okX σ) : MetI l yX0_value (ws_ yX0_value cX0_value 3 (some .int)) ({ frames := 1, cells := 0, slots := 0, locals := 21 }) (dC, dI) (tX cA) (wX h0 b cA) h0 [.int p1] sz σ ((x_value σ p1).1) ((x_value σ p1).2) := by
  refine Met.ofW (cc := cX0_value) (maxL := 3) (ret := (some .int)) (by decide) rfl ?_
  intro p e s m args below meth c s₁ B hml hv
  obtain ⟨rfl, hsz, hP, hK, hD0⟩ := hv
  have hx := B.exec
  have hb := B.bytes
  have hr := B.returns
  have hts := atoms_spec (ws := (ws_ yX0_value cX0_value 3 (some .int))) B.pre
  have hts : ∀ w ∈ lw_all, w.before _ s = true := fun w h => hts w (List.mem_cons_of_mem _ h)
  have hown : s.vm.findClass RX0 = some m.cls := findClass_of_methodNamed B.named
  have hlocks := B.notSynchronized
  subst hsz
  have hD := hD0.self (sz := s.heap.size)
  generalize hAe : va_A (wX h0 b cA σ) s.heap.size = A at hD ⊢
  have hA : ∀ q : Nat, s.heap.size ≤ q → A q := fun q h => by rw [← hAe]; exact Or.inr h
  have hS : va_S A s.heap s.heap [] := va_S.rf
  have hl := lv_entry ([.ref h0, .int p1]) (n := 3) (Nat.le_of_ble_eq_true rfl)
  rw [lg_entry_eq]
  generalize (lg_sl ([.ref h0, .int p1]) ++ List.replicate (3 - (lg_sl ([.ref h0, .int p1])).length) Slot.unset).toArray = ls at hl ⊢
  have hl : lv_has ls 3 [(0, .ref h0), (1, .int p1)] := hl
  refine lv_aload_n hx hb dX0_value_0 rfl (lv_at hl 0 rfl) ?_
  refine lv_iload_n hx hb dX0_value_1 rfl (lv_at hl 1 rfl) ?_
  refine ca_i (D := (dC, dI)) (wf := wX h0 b cA) hx hb hml hown hts (metX0_isHandle l dC dI h0 b cA _ σ p1) (cwV 1 hts (lw_V q94 q96 qs0 q26 q97) rfl rfl rfl (by decide +kernel) ⟨Nat.le_of_ble_eq_true rfl, Nat.le_of_ble_eq_true rfl⟩) hK hP hD hS hA 0 0 rfl rfl rfl hl.1 rfl (lv_room (Nat.le_of_ble_eq_true rfl)) dX0_value_2 ⟨Nat.le_of_ble_eq_true rfl, Nat.le_of_ble_eq_true rfl⟩ (fun H locs hP hD hS => ?_)
  refine lv_if_eq (tgt := 17) hx hb dX0_value_5 (by decide) (fun c_5 => ?_) (fun c_5 => ?_)
  · refine lv_iconst (v := 0) hx hb dX0_value_17 (by decide) ?_
    have hqr : 0 = (x_value σ p1).1 := by simp only [x_value, x_val, if_pos c_5]
    have hqs : σ = (x_value σ p1).2 := by simp only [x_value, x_val, if_pos c_5]
    exact W.iret (v := 0) hx hb hr (fun t ht hW => ⟨⟨0, σ, rfl, ⟨hqr, hqs⟩, by rw [ht]; exact hP, va_K.moved hW.alike hK, hD⟩, hS.F ht⟩) hS.2.2 dX0_value_18
  · obtain ⟨k, hk, rfl⟩ := isH_in c_5
    have hkc : (nI k).toNatClampNeg = k := nI_clamp (by omega)
    refine lv_aload_n hx hb dX0_value_8 rfl (lv_at hl 0 rfl) ?_
    refine va_get (D := (dC, dI)) (ci := 0) (v := .ref (b 16)) (C := RX0) (T := TX0) (N := 17) hx hb hts in_X0 hown hK hP 0 rfl rfl 16 (by decide) (hts _ q52) (fun _ h9 => h9) rfl dX0_value_9 ?_
    refine lv_iload_n hx hb dX0_value_12 rfl (lv_at hl 1 rfl) ?_
    refine xa_bald (D := (dC, dI)) (f := σ.2 16) hx hb hK hP 8 7 rfl rfl k rfl (by omega) (by decide) dX0_value_13 ?_
    refine lv_if_ge (tgt := 19) hx hb dX0_value_14 (by decide) (fun c_14 => ?_) (fun c_14 => ?_)
    · obtain ⟨j, hj, ej⟩ := okv_nn (hok.2.2.2.1 k) c_14
      rw [ej] at c_14
      have hjc : (nI j).toNatClampNeg = j := nI_clamp (by omega)
      refine lv_aload_n hx hb dX0_value_19 rfl (lv_at hl 0 rfl) ?_
      refine va_get (D := (dC, dI)) (ci := 0) (v := .ref (b 16)) (C := RX0) (T := TX0) (N := 17) hx hb hts in_X0 hown hK hP 0 rfl rfl 16 (by decide) (hts _ q52) (fun _ h9 => h9) rfl dX0_value_20 ?_
      refine lv_iload_n hx hb dX0_value_23 rfl (lv_at hl 1 rfl) ?_
      refine xa_bald (D := (dC, dI)) (f := σ.2 16) hx hb hK hP 8 7 rfl rfl k rfl (by omega) (by decide) dX0_value_24 ?_
      refine lv_tope (ej) ?_
      refine lv_istore_n (lv' := [(2, .int (nI j)), (0, .ref h0), (1, .int (nI k))]) hx hb dX0_value_25 rfl hl (by decide) rfl (fun ls hl => ?_)
      refine lv_aload_n hx hb dX0_value_26 rfl (lv_at hl 1 rfl) ?_
      refine lv_iload_n hx hb dX0_value_27 rfl (lv_at hl 0 rfl) ?_
      refine ca_v (D := (dC, dI)) (wf := wX h0 b cA) hx hb hml hown hts (metX0_bringIn l dC dI h0 b cA _ σ j (by omega) hok) (cwV 1 hts (lw_V q130 q132 qs6 q26 q133) rfl rfl rfl (by decide +kernel) ⟨Nat.le_of_ble_eq_true rfl, Nat.le_of_ble_eq_true rfl⟩) hK hP hD hS hA 0 0 rfl rfl rfl hl.1 rfl (lv_room (Nat.le_of_ble_eq_true rfl)) dX0_value_28 ⟨Nat.le_of_ble_eq_true rfl, Nat.le_of_ble_eq_true rfl⟩ (fun H locs hP hD hS => ?_)
      refine lv_aload_n hx hb dX0_value_31 rfl (lv_at hl 1 rfl) ?_
      refine va_get (D := (dC, dI)) (ci := 0) (v := .ref (b 12)) (C := RX0) (T := TX0) (N := 17) hx hb hts in_X0 hown hK hP 0 rfl rfl 12 (by decide) (hts _ q48) (fun _ h9 => h9) rfl dX0_value_32 ?_
      refine lv_iload_n hx hb dX0_value_35 rfl (lv_at hl 0 rfl) ?_
      refine xa_iald (D := (dC, dI)) (f := (x_bring σ j).2 12) hx hb hK hP 6 5 rfl rfl j rfl (by omega) (by decide) dX0_value_36 ?_
      have hqr : (x_bring σ j).2 12 j = (x_value σ (nI k)).1 := by simp only [x_value, x_val, if_neg c_5, if_pos c_14, hkc, ej, hjc]
      have hqs : (x_bring σ j) = (x_value σ (nI k)).2 := by simp only [x_value, x_val, if_neg c_5, if_pos c_14, hkc, ej, hjc]
      exact W.iret (v := (x_bring σ j).2 12 j) hx hb hr (fun t ht hW => ⟨⟨(x_bring σ j).2 12 j, (x_bring σ j), rfl, ⟨hqr, hqs⟩, by rw [ht]; exact hP, va_K.moved hW.alike hK, hD⟩, hS.F ht⟩) hS.2.2 dX0_value_37
    · refine lv_iconst (v := 0) hx hb dX0_value_17 (by decide) ?_
      have hqr : 0 = (x_value σ (nI k)).1 := by simp only [x_value, x_val, if_neg c_5, if_neg c_14, hkc]
      have hqs : σ = (x_value σ (nI k)).2 := by simp only [x_value, x_val, if_neg c_5, if_neg c_14, hkc]
      exact W.iret (v := 0) hx hb hr (fun t ht hW => ⟨⟨0, σ, rfl, ⟨hqr, hqs⟩, by rw [ht]; exact hP, va_K.moved hW.alike hK, hD⟩, hS.F ht⟩) hS.2.2 dX0_value_18

set_option maxHeartbeats 4000000 in
theorem metX0_setValue (l : Launch) (dC : Nat → ClassId) (dI : Nat → Nat → Nat) (h0 : Nat) (b : Nat → Nat) (cA : Nat → ClassId) (sz : Nat) (σ : XS) (p1 : Int32) (p2 : Int32) (hok : okX σ) : MetI l yX0_setValue (ws_ yX0_setValue cX0_setValue 4 (some .int)) ({ frames := 1, cells := 0, slots := 0, locals := 21 }) (dC, dI) (tX cA) (wX h0 b cA) h0 [.int p1, .int p2] sz σ ((x_setValue σ p1 p2).1) ((x_setValue σ p1 p2).2) := by
  refine Met.ofW (cc := cX0_setValue) (maxL := 4) (ret := (some .int)) (by decide) rfl ?_
  intro p e s m args below meth c s₁ B hml hv
  obtain ⟨rfl, hsz, hP, hK, hD0⟩ := hv
  have hx := B.exec
  have hb := B.bytes
  have hr := B.returns
  have hts := atoms_spec (ws := (ws_ yX0_setValue cX0_setValue 4 (some .int))) B.pre
  have hts : ∀ w ∈ lw_all, w.before _ s = true := fun w h => hts w (List.mem_cons_of_mem _ h)
  have hown : s.vm.findClass RX0 = some m.cls := findClass_of_methodNamed B.named
  have hlocks := B.notSynchronized
  subst hsz
  have hD := hD0.self (sz := s.heap.size)
  generalize hAe : va_A (wX h0 b cA σ) s.heap.size = A at hD ⊢
  have hA : ∀ q : Nat, s.heap.size ≤ q → A q := fun q h => by rw [← hAe]; exact Or.inr h
  have hS : va_S A s.heap s.heap [] := va_S.rf
  have hl := lv_entry ([.ref h0, .int p1, .int p2]) (n := 4) (Nat.le_of_ble_eq_true rfl)
  rw [lg_entry_eq]
  generalize (lg_sl ([.ref h0, .int p1, .int p2]) ++ List.replicate (4 - (lg_sl ([.ref h0, .int p1, .int p2])).length) Slot.unset).toArray = ls at hl ⊢
  have hl : lv_has ls 4 [(0, .ref h0), (1, .int p1), (2, .int p2)] := hl
  refine lv_aload_n hx hb dX0_setValue_0 rfl (lv_at hl 0 rfl) ?_
  refine lv_iload_n hx hb dX0_setValue_1 rfl (lv_at hl 1 rfl) ?_
  refine ca_i (D := (dC, dI)) (wf := wX h0 b cA) hx hb hml hown hts (metX0_isHandle l dC dI h0 b cA _ σ p1) (cwV 1 hts (lw_V q94 q96 qs0 q26 q97) rfl rfl rfl (by decide +kernel) ⟨Nat.le_of_ble_eq_true rfl, Nat.le_of_ble_eq_true rfl⟩) hK hP hD hS hA 0 0 rfl rfl rfl hl.1 rfl (lv_room (Nat.le_of_ble_eq_true rfl)) dX0_setValue_2 ⟨Nat.le_of_ble_eq_true rfl, Nat.le_of_ble_eq_true rfl⟩ (fun H locs hP hD hS => ?_)
  refine lv_if_ne (tgt := 10) hx hb dX0_setValue_5 (by decide) (fun c_5 => ?_) (fun c_5 => ?_)
  · obtain ⟨k, hk, rfl⟩ := isH_in c_5
    have hkc : (nI k).toNatClampNeg = k := nI_clamp (by omega)
    refine lv_aload_n hx hb dX0_setValue_10 rfl (lv_at hl 0 rfl) ?_
    refine va_get (D := (dC, dI)) (ci := 0) (v := .ref (b 16)) (C := RX0) (T := TX0) (N := 17) hx hb hts in_X0 hown hK hP 0 rfl rfl 16 (by decide) (hts _ q52) (fun _ h9 => h9) rfl dX0_setValue_11 ?_
    refine lv_iload_n hx hb dX0_setValue_14 rfl (lv_at hl 1 rfl) ?_
    refine xa_bald (D := (dC, dI)) (f := σ.2 16) hx hb hK hP 8 7 rfl rfl k rfl (by omega) (by decide) dX0_setValue_15 ?_
    refine lv_if_ge (tgt := 22) hx hb dX0_setValue_16 (by decide) (fun c_16 => ?_) (fun c_16 => ?_)
    · obtain ⟨j, hj, ej⟩ := okv_nn (hok.2.2.2.1 k) c_16
      rw [ej] at c_16
      have hjc : (nI j).toNatClampNeg = j := nI_clamp (by omega)
      refine lv_aload_n hx hb dX0_setValue_22 rfl (lv_at hl 0 rfl) ?_
      refine va_get (D := (dC, dI)) (ci := 0) (v := .ref (b 16)) (C := RX0) (T := TX0) (N := 17) hx hb hts in_X0 hown hK hP 0 rfl rfl 16 (by decide) (hts _ q52) (fun _ h9 => h9) rfl dX0_setValue_23 ?_
      refine lv_iload_n hx hb dX0_setValue_26 rfl (lv_at hl 1 rfl) ?_
      refine xa_bald (D := (dC, dI)) (f := σ.2 16) hx hb hK hP 8 7 rfl rfl k rfl (by omega) (by decide) dX0_setValue_27 ?_
      refine lv_tope (ej) ?_
      refine lv_istore_n (lv' := [(3, .int (nI j)), (0, .ref h0), (1, .int (nI k)), (2, .int p2)]) hx hb dX0_setValue_28 rfl hl (by decide) rfl (fun ls hl => ?_)
      refine lv_aload_n hx hb dX0_setValue_29 rfl (lv_at hl 1 rfl) ?_
      refine lv_iload_n hx hb dX0_setValue_30 rfl (lv_at hl 0 rfl) ?_
      refine ca_v (D := (dC, dI)) (wf := wX h0 b cA) hx hb hml hown hts (metX0_bringIn l dC dI h0 b cA _ σ j (by omega) hok) (cwV 1 hts (lw_V q130 q132 qs6 q26 q133) rfl rfl rfl (by decide +kernel) ⟨Nat.le_of_ble_eq_true rfl, Nat.le_of_ble_eq_true rfl⟩) hK hP hD hS hA 0 0 rfl rfl rfl hl.1 rfl (lv_room (Nat.le_of_ble_eq_true rfl)) dX0_setValue_31 ⟨Nat.le_of_ble_eq_true rfl, Nat.le_of_ble_eq_true rfl⟩ (fun H locs hP hD hS => ?_)
      refine lv_aload_n hx hb dX0_setValue_34 rfl (lv_at hl 1 rfl) ?_
      refine va_get (D := (dC, dI)) (ci := 0) (v := .ref (b 12)) (C := RX0) (T := TX0) (N := 17) hx hb hts in_X0 hown hK hP 0 rfl rfl 12 (by decide) (hts _ q48) (fun _ h9 => h9) rfl dX0_setValue_35 ?_
      refine lv_iload_n hx hb dX0_setValue_38 rfl (lv_at hl 0 rfl) ?_
      refine lv_iload_n hx hb dX0_setValue_39 rfl (lv_at hl 3 rfl) ?_
      refine xa_iast (D := (dC, dI)) (f := (x_bring σ j).2 12) hx hb hK hP hD hS 6 5 rfl rfl j rfl (by omega) (by decide) dX0_setValue_40 (fun H locs hP hD hS => ?_)
      have hP : va_P (dC, dI) vwCl (wX h0 b cA (setA (x_bring σ j) 12 j p2)) H := hP
      have hD : va_D A (wX h0 b cA (setA (x_bring σ j) 12 j p2)) := hD
      refine lv_iconst (v := 1) hx hb dX0_setValue_41 (by decide) ?_
      have hqr : 1 = (x_setValue σ (nI k) p2).1 := by simp only [x_setValue, if_neg c_5, if_pos c_16, hkc, ej, hjc]
      have hqs : setA (x_bring σ j) 12 j p2 = (x_setValue σ (nI k) p2).2 := by simp only [x_setValue, if_neg c_5, if_pos c_16, hkc, ej, hjc]
      exact W.iret (v := 1) hx hb hr (fun t ht hW => ⟨⟨1, (setA (x_bring σ j) 12 j p2), rfl, ⟨hqr, hqs⟩, by rw [ht]; exact hP, va_K.moved hW.alike hK, hD⟩, hS.F ht⟩) hS.2.2 dX0_setValue_42
    · refine lv_bipush (v := (-3)) hx hb dX0_setValue_19 (by decide) ?_
      have hqr : (-3) = (x_setValue σ (nI k) p2).1 := by simp only [x_setValue, if_neg c_5, if_neg c_16, hkc]
      have hqs : σ = (x_setValue σ (nI k) p2).2 := by simp only [x_setValue, if_neg c_5, if_neg c_16, hkc]
      exact W.iret (v := (-3)) hx hb hr (fun t ht hW => ⟨⟨(-3), σ, rfl, ⟨hqr, hqs⟩, by rw [ht]; exact hP, va_K.moved hW.alike hK, hD⟩, hS.F ht⟩) hS.2.2 dX0_setValue_21
  · refine lv_iconst (v := (-1)) hx hb dX0_setValue_8 (by decide) ?_
    have hqr : (-1) = (x_setValue σ p1 p2).1 := by simp only [x_setValue, if_pos c_5]
    have hqs : σ = (x_setValue σ p1 p2).2 := by simp only [x_setValue, if_pos c_5]
    exact W.iret (v := (-1)) hx hb hr (fun t ht hW => ⟨⟨(-1), σ, rfl, ⟨hqr, hqs⟩, by rw [ht]; exact hP, va_K.moved hW.alike hK, hD⟩, hS.F ht⟩) hS.2.2 dX0_setValue_9

set_option maxHeartbeats 4000000 in
theorem metX0_same (l : Launch) (dC : Nat → ClassId) (dI : Nat → Nat → Nat) (h0 : Nat) (b : Nat → Nat) (cA : Nat → ClassId) (sz : Nat) (σ : XS) (p1 : Int32) (p2 : Int32) : MetI l yX0_same (ws_ yX0_same cX0_same 3 (some .boolean)) ({ frames := 1, cells := 0, slots := 0, locals := 21 }) (dC, dI) (tX cA) (wX h0 b cA) h0 [.int p1, .int p2] sz σ (sameH (σ.2 16) p1 p2) σ := by
  refine Met.ofW (cc := cX0_same) (maxL := 3) (ret := (some .boolean)) (by decide) rfl ?_
  intro p e s m args below meth c s₁ B hml hv
  obtain ⟨rfl, hsz, hP, hK, hD0⟩ := hv
  have hx := B.exec
  have hb := B.bytes
  have hr := B.returns
  have hts := atoms_spec (ws := (ws_ yX0_same cX0_same 3 (some .boolean))) B.pre
  have hts : ∀ w ∈ lw_all, w.before _ s = true := fun w h => hts w (List.mem_cons_of_mem _ h)
  have hown : s.vm.findClass RX0 = some m.cls := findClass_of_methodNamed B.named
  have hlocks := B.notSynchronized
  subst hsz
  have hD := hD0.self (sz := s.heap.size)
  generalize hAe : va_A (wX h0 b cA σ) s.heap.size = A at hD ⊢
  have hA : ∀ q : Nat, s.heap.size ≤ q → A q := fun q h => by rw [← hAe]; exact Or.inr h
  have hS : va_S A s.heap s.heap [] := va_S.rf
  have hl := lv_entry ([.ref h0, .int p1, .int p2]) (n := 3) (Nat.le_of_ble_eq_true rfl)
  rw [lg_entry_eq]
  generalize (lg_sl ([.ref h0, .int p1, .int p2]) ++ List.replicate (3 - (lg_sl ([.ref h0, .int p1, .int p2])).length) Slot.unset).toArray = ls at hl ⊢
  have hl : lv_has ls 3 [(0, .ref h0), (1, .int p1), (2, .int p2)] := hl
  refine lv_aload_n hx hb dX0_same_0 rfl (lv_at hl 0 rfl) ?_
  refine lv_iload_n hx hb dX0_same_1 rfl (lv_at hl 1 rfl) ?_
  refine ca_i (D := (dC, dI)) (wf := wX h0 b cA) hx hb hml hown hts (metX0_isHandle l dC dI h0 b cA _ σ p1) (cwV 1 hts (lw_V q94 q96 qs0 q26 q97) rfl rfl rfl (by decide +kernel) ⟨Nat.le_of_ble_eq_true rfl, Nat.le_of_ble_eq_true rfl⟩) hK hP hD hS hA 0 0 rfl rfl rfl hl.1 rfl (lv_room (Nat.le_of_ble_eq_true rfl)) dX0_same_2 ⟨Nat.le_of_ble_eq_true rfl, Nat.le_of_ble_eq_true rfl⟩ (fun H locs hP hD hS => ?_)
  refine lv_if_eq (tgt := 44) hx hb dX0_same_5 (by decide) (fun c_5 => ?_) (fun c_5 => ?_)
  · refine lv_iconst (v := 0) hx hb dX0_same_44 (by decide) ?_
    have hqr : 0 = sameH (σ.2 16) p1 p2 := by simp only [sameH, if_pos c_5]
    have hqs : σ = σ := rfl
    exact W.zret (v := 0) hx hb hr rfl (fun t ht hW => ⟨⟨0, σ, rfl, ⟨hqr, hqs⟩, by rw [ht]; exact hP, va_K.moved hW.alike hK, hD⟩, hS.F ht⟩) hS.2.2 dX0_same_45
  · refine lv_aload_n hx hb dX0_same_8 rfl (lv_at hl 0 rfl) ?_
    refine lv_iload_n hx hb dX0_same_9 rfl (lv_at hl 2 rfl) ?_
    refine ca_i (D := (dC, dI)) (wf := wX h0 b cA) hx hb hml hown hts (metX0_isHandle l dC dI h0 b cA _ σ p2) (cwV 1 hts (lw_V q94 q96 qs0 q26 q97) rfl rfl rfl (by decide +kernel) ⟨Nat.le_of_ble_eq_true rfl, Nat.le_of_ble_eq_true rfl⟩) hK hP hD hS hA 0 0 rfl rfl rfl hl.1 rfl (lv_room (Nat.le_of_ble_eq_true rfl)) dX0_same_10 ⟨Nat.le_of_ble_eq_true rfl, Nat.le_of_ble_eq_true rfl⟩ (fun H locs hP hD hS => ?_)
    refine lv_if_eq (tgt := 44) hx hb dX0_same_13 (by decide) (fun c_13 => ?_) (fun c_13 => ?_)
    · refine lv_iconst (v := 0) hx hb dX0_same_44 (by decide) ?_
      have hqr : 0 = sameH (σ.2 16) p1 p2 := by simp only [sameH, if_neg c_5, if_pos c_13]
      have hqs : σ = σ := rfl
      exact W.zret (v := 0) hx hb hr rfl (fun t ht hW => ⟨⟨0, σ, rfl, ⟨hqr, hqs⟩, by rw [ht]; exact hP, va_K.moved hW.alike hK, hD⟩, hS.F ht⟩) hS.2.2 dX0_same_45
    · obtain ⟨k1, hk1, rfl⟩ := isH_in c_5
      obtain ⟨k2, hk2, rfl⟩ := isH_in c_13
      have hk1c : (nI k1).toNatClampNeg = k1 := nI_clamp (by omega)
      have hk2c : (nI k2).toNatClampNeg = k2 := nI_clamp (by omega)
      refine lv_aload_n hx hb dX0_same_16 rfl (lv_at hl 0 rfl) ?_
      refine va_get (D := (dC, dI)) (ci := 0) (v := .ref (b 16)) (C := RX0) (T := TX0) (N := 17) hx hb hts in_X0 hown hK hP 0 rfl rfl 16 (by decide) (hts _ q52) (fun _ h9 => h9) rfl dX0_same_17 ?_
      refine lv_iload_n hx hb dX0_same_20 rfl (lv_at hl 1 rfl) ?_
      refine xa_bald (D := (dC, dI)) (f := σ.2 16) hx hb hK hP 8 7 rfl rfl k1 rfl (by omega) (by decide) dX0_same_21 ?_
      refine lv_if_lt (tgt := 44) hx hb dX0_same_22 (by decide) (fun c_22 => ?_) (fun c_22 => ?_)
      · refine lv_iconst (v := 0) hx hb dX0_same_44 (by decide) ?_
        have hqr : 0 = sameH (σ.2 16) (nI k1) (nI k2) := by simp only [sameH, if_neg c_5, if_neg c_13, if_pos c_22, hk1c, hk2c]
        have hqs : σ = σ := rfl
        exact W.zret (v := 0) hx hb hr rfl (fun t ht hW => ⟨⟨0, σ, rfl, ⟨hqr, hqs⟩, by rw [ht]; exact hP, va_K.moved hW.alike hK, hD⟩, hS.F ht⟩) hS.2.2 dX0_same_45
      · refine lv_aload_n hx hb dX0_same_25 rfl (lv_at hl 0 rfl) ?_
        refine va_get (D := (dC, dI)) (ci := 0) (v := .ref (b 16)) (C := RX0) (T := TX0) (N := 17) hx hb hts in_X0 hown hK hP 0 rfl rfl 16 (by decide) (hts _ q52) (fun _ h9 => h9) rfl dX0_same_26 ?_
        refine lv_iload_n hx hb dX0_same_29 rfl (lv_at hl 1 rfl) ?_
        refine xa_bald (D := (dC, dI)) (f := σ.2 16) hx hb hK hP 8 7 rfl rfl k1 rfl (by omega) (by decide) dX0_same_30 ?_
        refine lv_aload_n hx hb dX0_same_31 rfl (lv_at hl 0 rfl) ?_
        refine va_get (D := (dC, dI)) (ci := 0) (v := .ref (b 16)) (C := RX0) (T := TX0) (N := 17) hx hb hts in_X0 hown hK hP 0 rfl rfl 16 (by decide) (hts _ q52) (fun _ h9 => h9) rfl dX0_same_32 ?_
        refine lv_iload_n hx hb dX0_same_35 rfl (lv_at hl 2 rfl) ?_
        refine xa_bald (D := (dC, dI)) (f := σ.2 16) hx hb hK hP 8 7 rfl rfl k2 rfl (by omega) (by decide) dX0_same_36 ?_
        refine lv_icmp_ne (tgt := 44) hx hb dX0_same_37 (by decide) (fun c_37 => ?_) (fun c_37 => ?_)
        · refine lv_iconst (v := 0) hx hb dX0_same_44 (by decide) ?_
          have hqr : 0 = sameH (σ.2 16) (nI k1) (nI k2) := by simp only [sameH, if_neg c_5, if_neg c_13, if_neg c_22, if_neg c_37, hk1c, hk2c]
          have hqs : σ = σ := rfl
          exact W.zret (v := 0) hx hb hr rfl (fun t ht hW => ⟨⟨0, σ, rfl, ⟨hqr, hqs⟩, by rw [ht]; exact hP, va_K.moved hW.alike hK, hD⟩, hS.F ht⟩) hS.2.2 dX0_same_45
        · refine lv_iconst (v := 1) hx hb dX0_same_40 (by decide) ?_
          refine lv_goto (tgt := 45) hx hb dX0_same_41 (by decide) ?_
          have hqr : 1 = sameH (σ.2 16) (nI k1) (nI k2) := by simp only [sameH, if_neg c_5, if_neg c_13, if_neg c_22, if_pos c_37, hk1c, hk2c]
          have hqs : σ = σ := rfl
          exact W.zret (v := 1) hx hb hr rfl (fun t ht hW => ⟨⟨1, σ, rfl, ⟨hqr, hqs⟩, by rw [ht]; exact hP, va_K.moved hW.alike hK, hD⟩, hS.F ht⟩) hS.2.2 dX0_same_45
end
section
set_option maxRecDepth 100000
set_option maxHeartbeats 4000000 in
theorem metX0_differs (l : Launch) (dC : Nat → ClassId) (dI : Nat → Nat → Nat) (h0 : Nat) (b : Nat → Nat) (cA : Nat → ClassId) (sz : Nat) (σ : XS) (j : Nat) (hj : j < 12) : MetI l yX0_differs (ws_ yX0_differs cX0_differs 2 (some .boolean)) ({ frames := 0, cells := 0, slots := 0, locals := 0 }) (dC, dI) (tX cA) (wX h0 b cA) h0 [.int (nI j)] sz σ (x_diff σ j) σ := by
  refine Met.ofW (cc := cX0_differs) (maxL := 2) (ret := (some .boolean)) (by decide) rfl ?_
  intro p e s m args below meth c s₁ B hml hv
  obtain ⟨rfl, hsz, hP, hK, hD0⟩ := hv
  have hx := B.exec
  have hb := B.bytes
  have hr := B.returns
  have hts := atoms_spec (ws := (ws_ yX0_differs cX0_differs 2 (some .boolean))) B.pre
  have hts : ∀ w ∈ lw_all, w.before _ s = true := fun w h => hts w (List.mem_cons_of_mem _ h)
  have hown : s.vm.findClass RX0 = some m.cls := findClass_of_methodNamed B.named
  have hlocks := B.notSynchronized
  subst hsz
  have hD := hD0.self (sz := s.heap.size)
  generalize hAe : va_A (wX h0 b cA σ) s.heap.size = A at hD ⊢
  have hA : ∀ q : Nat, s.heap.size ≤ q → A q := fun q h => by rw [← hAe]; exact Or.inr h
  have hS : va_S A s.heap s.heap [] := va_S.rf
  have hl := lv_entry ([.ref h0, .int (nI j)]) (n := 2) (Nat.le_of_ble_eq_true rfl)
  rw [lg_entry_eq]
  generalize (lg_sl ([.ref h0, .int (nI j)]) ++ List.replicate (2 - (lg_sl ([.ref h0, .int (nI j)])).length) Slot.unset).toArray = ls at hl ⊢
  have hl : lv_has ls 2 [(0, .ref h0), (1, .int (nI j))] := hl
  refine lv_aload_n hx hb dX0_differs_0 rfl (lv_at hl 0 rfl) ?_
  refine va_get (D := (dC, dI)) (ci := 0) (v := .int (σ.1 3)) (C := RX0) (T := TX0) (N := 17) hx hb hts in_X0 hown hK hP 0 rfl rfl 3 (by decide) (hts _ q39) (fun _ h9 => h9) rfl dX0_differs_1 ?_
  refine lv_iload_n hx hb dX0_differs_4 rfl (lv_at hl 1 rfl) ?_
  refine lv_ishr hx hb dX0_differs_5 ?_
  refine lv_iconst (v := 1) hx hb dX0_differs_6 (by decide) ?_
  refine lv_iand hx hb dX0_differs_7 ?_
  refine lv_if_ne (tgt := 13) hx hb dX0_differs_8 (by decide) (fun c_8 => ?_) (fun c_8 => ?_)
  · refine lv_aload_n hx hb dX0_differs_13 rfl (lv_at hl 0 rfl) ?_
    refine va_get (D := (dC, dI)) (ci := 0) (v := .int (σ.1 11)) (C := RX0) (T := TX0) (N := 17) hx hb hts in_X0 hown hK hP 0 rfl rfl 11 (by decide) (hts _ q47) (fun _ h9 => h9) rfl dX0_differs_14 ?_
    refine lv_iload_n hx hb dX0_differs_17 rfl (lv_at hl 1 rfl) ?_
    refine lv_ishr hx hb dX0_differs_18 ?_
    refine lv_iconst (v := 1) hx hb dX0_differs_19 (by decide) ?_
    refine lv_iand hx hb dX0_differs_20 ?_
    refine lv_if_ne (tgt := 26) hx hb dX0_differs_21 (by decide) (fun c_21 => ?_) (fun c_21 => ?_)
    · refine lv_aload_n hx hb dX0_differs_26 rfl (lv_at hl 0 rfl) ?_
      refine va_get (D := (dC, dI)) (ci := 0) (v := .ref (b 12)) (C := RX0) (T := TX0) (N := 17) hx hb hts in_X0 hown hK hP 0 rfl rfl 12 (by decide) (hts _ q48) (fun _ h9 => h9) rfl dX0_differs_27 ?_
      refine lv_iload_n hx hb dX0_differs_30 rfl (lv_at hl 1 rfl) ?_
      refine xa_iald (D := (dC, dI)) (f := σ.2 12) hx hb hK hP 6 5 rfl rfl j rfl (by omega) (by decide) dX0_differs_31 ?_
      refine lv_aload_n hx hb dX0_differs_32 rfl (lv_at hl 0 rfl) ?_
      refine va_get (D := (dC, dI)) (ci := 0) (v := .ref (b 0)) (C := RX0) (T := TX0) (N := 17) hx hb hts in_X0 hown hK hP 0 rfl rfl 0 (by decide) (hts _ q36) (fun _ h9 => h9) rfl dX0_differs_33 ?_
      refine lv_iload_n hx hb dX0_differs_36 rfl (lv_at hl 1 rfl) ?_
      refine xa_iald (D := (dC, dI)) (f := σ.2 0) hx hb hK hP 1 0 rfl rfl j rfl (by omega) (by decide) dX0_differs_37 ?_
      refine lv_icmp_ne (tgt := 83) hx hb dX0_differs_38 (by decide) (fun c_38 => ?_) (fun c_38 => ?_)
      · refine lv_iconst (v := 1) hx hb dX0_differs_83 (by decide) ?_
        refine lv_goto (tgt := 88) hx hb dX0_differs_84 (by decide) ?_
        have hqr : 1 = x_diff σ j := by simp only [x_diff, btI, if_neg c_8, if_neg c_21, if_neg c_38]
        have hqs : σ = σ := rfl
        exact W.zret (v := 1) hx hb hr rfl (fun t ht hW => ⟨⟨1, σ, rfl, ⟨hqr, hqs⟩, by rw [ht]; exact hP, va_K.moved hW.alike hK, hD⟩, hS.F ht⟩) hS.2.2 dX0_differs_88
      · refine lv_aload_n hx hb dX0_differs_41 rfl (lv_at hl 0 rfl) ?_
        refine va_get (D := (dC, dI)) (ci := 0) (v := .ref (b 13)) (C := RX0) (T := TX0) (N := 17) hx hb hts in_X0 hown hK hP 0 rfl rfl 13 (by decide) (hts _ q49) (fun _ h9 => h9) rfl dX0_differs_42 ?_
        refine lv_iconst (v := 2) hx hb dX0_differs_45 (by decide) ?_
        refine lv_iload_n hx hb dX0_differs_46 rfl (lv_at hl 1 rfl) ?_
        refine lv_imul hx hb dX0_differs_47 ?_
        refine lv_tope (e2m _) ?_
        refine xa_bald (D := (dC, dI)) (f := σ.2 13) hx hb hK hP 7 6 rfl rfl (2 * j) rfl (by omega) (by decide) dX0_differs_48 ?_
        refine lv_aload_n hx hb dX0_differs_49 rfl (lv_at hl 0 rfl) ?_
        refine va_get (D := (dC, dI)) (ci := 0) (v := .ref (b 1)) (C := RX0) (T := TX0) (N := 17) hx hb hts in_X0 hown hK hP 0 rfl rfl 1 (by decide) (hts _ q37) (fun _ h9 => h9) rfl dX0_differs_50 ?_
        refine lv_iconst (v := 2) hx hb dX0_differs_53 (by decide) ?_
        refine lv_iload_n hx hb dX0_differs_54 rfl (lv_at hl 1 rfl) ?_
        refine lv_imul hx hb dX0_differs_55 ?_
        refine lv_tope (e2m _) ?_
        refine xa_bald (D := (dC, dI)) (f := σ.2 1) hx hb hK hP 2 1 rfl rfl (2 * j) rfl (by omega) (by decide) dX0_differs_56 ?_
        refine lv_icmp_ne (tgt := 83) hx hb dX0_differs_57 (by decide) (fun c_57 => ?_) (fun c_57 => ?_)
        · refine lv_iconst (v := 1) hx hb dX0_differs_83 (by decide) ?_
          refine lv_goto (tgt := 88) hx hb dX0_differs_84 (by decide) ?_
          have hqr : 1 = x_diff σ j := by simp only [x_diff, btI, if_neg c_8, if_neg c_21, if_pos c_38, if_neg c_57]
          have hqs : σ = σ := rfl
          exact W.zret (v := 1) hx hb hr rfl (fun t ht hW => ⟨⟨1, σ, rfl, ⟨hqr, hqs⟩, by rw [ht]; exact hP, va_K.moved hW.alike hK, hD⟩, hS.F ht⟩) hS.2.2 dX0_differs_88
        · refine lv_aload_n hx hb dX0_differs_60 rfl (lv_at hl 0 rfl) ?_
          refine va_get (D := (dC, dI)) (ci := 0) (v := .ref (b 13)) (C := RX0) (T := TX0) (N := 17) hx hb hts in_X0 hown hK hP 0 rfl rfl 13 (by decide) (hts _ q49) (fun _ h9 => h9) rfl dX0_differs_61 ?_
          refine lv_iconst (v := 2) hx hb dX0_differs_64 (by decide) ?_
          refine lv_iload_n hx hb dX0_differs_65 rfl (lv_at hl 1 rfl) ?_
          refine lv_imul hx hb dX0_differs_66 ?_
          refine lv_tope (e2m _) ?_
          refine lv_iconst (v := 1) hx hb dX0_differs_67 (by decide) ?_
          refine lv_iadd hx hb dX0_differs_68 ?_
          refine lv_tope (nI_1 _) ?_
          refine xa_bald (D := (dC, dI)) (f := σ.2 13) hx hb hK hP 7 6 rfl rfl (2 * j + 1) rfl (by omega) (by decide) dX0_differs_69 ?_
          refine lv_aload_n hx hb dX0_differs_70 rfl (lv_at hl 0 rfl) ?_
          refine va_get (D := (dC, dI)) (ci := 0) (v := .ref (b 1)) (C := RX0) (T := TX0) (N := 17) hx hb hts in_X0 hown hK hP 0 rfl rfl 1 (by decide) (hts _ q37) (fun _ h9 => h9) rfl dX0_differs_71 ?_
          refine lv_iconst (v := 2) hx hb dX0_differs_74 (by decide) ?_
          refine lv_iload_n hx hb dX0_differs_75 rfl (lv_at hl 1 rfl) ?_
          refine lv_imul hx hb dX0_differs_76 ?_
          refine lv_tope (e2m _) ?_
          refine lv_iconst (v := 1) hx hb dX0_differs_77 (by decide) ?_
          refine lv_iadd hx hb dX0_differs_78 ?_
          refine lv_tope (nI_1 _) ?_
          refine xa_bald (D := (dC, dI)) (f := σ.2 1) hx hb hK hP 2 1 rfl rfl (2 * j + 1) rfl (by omega) (by decide) dX0_differs_79 ?_
          refine lv_icmp_eq (tgt := 87) hx hb dX0_differs_80 (by decide) (fun c_80 => ?_) (fun c_80 => ?_)
          · refine lv_iconst (v := 0) hx hb dX0_differs_87 (by decide) ?_
            have hqr : 0 = x_diff σ j := by simp only [x_diff, btI, if_neg c_8, if_neg c_21, if_pos c_38, if_pos c_57, if_pos c_80]
            have hqs : σ = σ := rfl
            exact W.zret (v := 0) hx hb hr rfl (fun t ht hW => ⟨⟨0, σ, rfl, ⟨hqr, hqs⟩, by rw [ht]; exact hP, va_K.moved hW.alike hK, hD⟩, hS.F ht⟩) hS.2.2 dX0_differs_88
          · refine lv_iconst (v := 1) hx hb dX0_differs_83 (by decide) ?_
            refine lv_goto (tgt := 88) hx hb dX0_differs_84 (by decide) ?_
            have hqr : 1 = x_diff σ j := by simp only [x_diff, btI, if_neg c_8, if_neg c_21, if_pos c_38, if_pos c_57, if_neg c_80]
            have hqs : σ = σ := rfl
            exact W.zret (v := 1) hx hb hr rfl (fun t ht hW => ⟨⟨1, σ, rfl, ⟨hqr, hqs⟩, by rw [ht]; exact hP, va_K.moved hW.alike hK, hD⟩, hS.F ht⟩) hS.2.2 dX0_differs_88
    · refine lv_iconst (v := 0) hx hb dX0_differs_24 (by decide) ?_
      have hqr : 0 = x_diff σ j := by simp only [x_diff, btI, if_neg c_8, if_pos c_21]
      have hqs : σ = σ := rfl
      exact W.zret (v := 0) hx hb hr rfl (fun t ht hW => ⟨⟨0, σ, rfl, ⟨hqr, hqs⟩, by rw [ht]; exact hP, va_K.moved hW.alike hK, hD⟩, hS.F ht⟩) hS.2.2 dX0_differs_25
  · refine lv_iconst (v := 1) hx hb dX0_differs_11 (by decide) ?_
    have hqr : 1 = x_diff σ j := by simp only [x_diff, btI, if_pos c_8]
    have hqs : σ = σ := rfl
    exact W.zret (v := 1) hx hb hr rfl (fun t ht hW => ⟨⟨1, σ, rfl, ⟨hqr, hqs⟩, by rw [ht]; exact hP, va_K.moved hW.alike hK, hD⟩, hS.F ht⟩) hS.2.2 dX0_differs_12

set_option maxHeartbeats 4000000 in
theorem lpX0_changedPlaces_26 {p : Program} {l : Launch} {e : Env} {s : State} {m : MethodId} {below : List Frame} {meth : Method} {c : Code} {args : Array Value} {Q : State → Prop} {dC : Nat → ClassId} {dI : Nat → Nat → Nat} {A : Nat → Prop} {h0 : Nat} {b : Nat → Nat} {cA : Nat → ClassId} (hx : p.tables.exec = Jvm.exec) (hb : c.code = cX0_changedPlaces) (hml : c.maxLocals = 4) (hown : s.vm.findClass RX0 = some m.cls) (hts : ∀ w ∈ lw_all, w.before args s = true) (hA : ∀ q : Nat, s.heap.size ≤ q → A q) (hK : va_K (dC, dI) vwCl (tX cA) s) (z : Int32) :
    ∀ (n i : Nat) (t : Int32) (σ : XS), i + n = 12 → ∀ (H : Heap) (locs : List Loc), va_P (dC, dI) vwCl (wX h0 b cA σ) H → va_D A (wX h0 b cA σ) → va_S A s.heap H locs → ∀ (ls : Array Slot), lv_has ls 4 [(0, .ref h0), (1, .int z), (2, .int t), (3, .int (nI i))] →
    (∀ (H : Heap) (locs : List Loc), va_P (dC, dI) vwCl (wX h0 b cA σ) H → va_D A (wX h0 b cA σ) → va_S A s.heap H locs → ∀ (ls : Array Slot), lv_has ls 4 [(2, .int (chgL σ z n i t))] → W p l e (headSpec (ws_ yX0_changedPlaces cX0_changedPlaces 4 (some .int)) ({ frames := 2, cells := 0, slots := 0, locals := 49 })).room s m args below meth c H locs 0 0 Q (F0 m 60 ls [])) → W p l e (headSpec (ws_ yX0_changedPlaces cX0_changedPlaces 4 (some .int)) ({ frames := 2, cells := 0, slots := 0, locals := 49 })).room s m args below meth c H locs 0 0 Q (F0 m 26 ls []) := by
  intro n
  induction n with
  | zero =>
    intro i t σ hin H locs hP hD hS ls hl hk
    obtain rfl : i = 12 := by omega
    refine lv_iload_n hx hb dX0_changedPlaces_26 rfl (lv_at hl 3 rfl) ?_
    refine lv_bipush (v := 12) hx hb dX0_changedPlaces_27 (by decide) ?_
    refine lv_icmp_ge (tgt := 60) hx hb dX0_changedPlaces_29 (by decide) (fun c_29 => ?_) (fun c_29 => ?_)
    · exact hk _ _ hP hD hS ls (lv_sub hl [2] rfl)
    · exact absurd (by decide +kernel) c_29
  | succ n ih =>
    intro i t σ hin H locs hP hD hS ls hl hk
    have hi : i < 12 := by omega
    refine lv_iload_n hx hb dX0_changedPlaces_26 rfl (lv_at hl 3 rfl) ?_
    refine lv_bipush (v := 12) hx hb dX0_changedPlaces_27 (by decide) ?_
    refine lv_icmp_ge (tgt := 60) hx hb dX0_changedPlaces_29 (by decide) (fun c_29 => ?_) (fun c_29 => ?_)
    · exact absurd c_29 (nI_ge (b := 12) (by omega) (by decide))
    · refine lv_iload_n hx hb dX0_changedPlaces_32 rfl (lv_at hl 1 rfl) ?_
      refine lv_iload_n hx hb dX0_changedPlaces_33 rfl (lv_at hl 3 rfl) ?_
      refine lv_ishr hx hb dX0_changedPlaces_34 ?_
      refine lv_iconst (v := 1) hx hb dX0_changedPlaces_35 (by decide) ?_
      refine lv_iand hx hb dX0_changedPlaces_36 ?_
      refine lv_if_eq (tgt := 54) hx hb dX0_changedPlaces_37 (by decide) (fun c_37 => ?_) (fun c_37 => ?_)
      · refine lv_iinc (v := nI (i + 1)) (lv' := [(3, .int (nI (i + 1))), (0, .ref h0), (1, .int z), (2, .int t)]) hx hb dX0_changedPlaces_54 hl (k := 3) rfl (nI_1 _) (by decide) rfl (fun ls hl => ?_)
        refine lv_goto (tgt := 26) hx hb dX0_changedPlaces_57 (by decide) ?_
        rw [show chgL σ z (n + 1) i t = chgL σ z n (i + 1) t from by simp only [chgL, btI, if_neg c_29, if_pos c_37]] at hk
        exact ih (i + 1) t σ (by omega)  _ _ hP hD hS ls (lv_sub hl [1, 2, 3, 0] rfl) hk
      · refine lv_aload_n hx hb dX0_changedPlaces_40 rfl (lv_at hl 0 rfl) ?_
        refine lv_iload_n hx hb dX0_changedPlaces_41 rfl (lv_at hl 3 rfl) ?_
        refine ca_i (D := (dC, dI)) (wf := wX h0 b cA) hx hb hml hown hts (metX0_differs l dC dI h0 b cA _ σ i (by omega)) (cwV 1 hts (lw_V q162 q164 qs8 q26 q165) rfl rfl rfl (by decide +kernel) ⟨Nat.le_of_ble_eq_true rfl, Nat.le_of_ble_eq_true rfl⟩) hK hP hD hS hA 0 0 rfl rfl rfl hl.1 rfl (lv_room (Nat.le_of_ble_eq_true rfl)) dX0_changedPlaces_42 ⟨Nat.le_of_ble_eq_true rfl, Nat.le_of_ble_eq_true rfl⟩ (fun H locs hP hD hS => ?_)
        refine lv_if_eq (tgt := 54) hx hb dX0_changedPlaces_45 (by decide) (fun c_45 => ?_) (fun c_45 => ?_)
        · refine lv_iinc (v := nI (i + 1)) (lv' := [(3, .int (nI (i + 1))), (0, .ref h0), (1, .int z), (2, .int t)]) hx hb dX0_changedPlaces_54 hl (k := 3) rfl (nI_1 _) (by decide) rfl (fun ls hl => ?_)
          refine lv_goto (tgt := 26) hx hb dX0_changedPlaces_57 (by decide) ?_
          rw [show chgL σ z (n + 1) i t = chgL σ z n (i + 1) t from by simp only [chgL, btI, if_neg c_29, if_neg c_37, if_pos c_45]] at hk
          exact ih (i + 1) t σ (by omega)  _ _ hP hD hS ls (lv_sub hl [1, 2, 3, 0] rfl) hk
        · refine lv_iload_n hx hb dX0_changedPlaces_48 rfl (lv_at hl 2 rfl) ?_
          refine lv_iconst (v := 1) hx hb dX0_changedPlaces_49 (by decide) ?_
          refine lv_iload_n hx hb dX0_changedPlaces_50 rfl (lv_at hl 3 rfl) ?_
          refine lv_ishl hx hb dX0_changedPlaces_51 ?_
          refine lv_ior hx hb dX0_changedPlaces_52 ?_
          refine lv_istore_n (lv' := [(2, .int (t ||| ((1 : Int32) <<< ((nI i) &&& 31)))), (0, .ref h0), (1, .int z), (3, .int (nI i))]) hx hb dX0_changedPlaces_53 rfl hl (by decide) rfl (fun ls hl => ?_)
          refine lv_iinc (v := nI (i + 1)) (lv' := [(3, .int (nI (i + 1))), (2, .int (t ||| ((1 : Int32) <<< ((nI i) &&& 31)))), (0, .ref h0), (1, .int z)]) hx hb dX0_changedPlaces_54 hl (k := 3) rfl (nI_1 _) (by decide) rfl (fun ls hl => ?_)
          refine lv_goto (tgt := 26) hx hb dX0_changedPlaces_57 (by decide) ?_
          rw [show chgL σ z (n + 1) i t = chgL σ z n (i + 1) (t ||| ((1 : Int32) <<< ((nI i) &&& 31))) from by simp only [chgL, btI, if_neg c_29, if_neg c_37, if_neg c_45]] at hk
          exact ih (i + 1) (t ||| ((1 : Int32) <<< ((nI i) &&& 31))) σ (by omega)  _ _ hP hD hS ls (lv_sub hl [2, 3, 1, 0] rfl) hk

set_option maxHeartbeats 4000000 in
theorem metX0_changedPlaces (l : Launch) (dC : Nat → ClassId) (dI : Nat → Nat → Nat) (h0 : Nat) (b : Nat → Nat) (cA : Nat → ClassId) (sz : Nat) (σ : XS) : MetI l yX0_changedPlaces (ws_ yX0_changedPlaces cX0_changedPlaces 4 (some .int)) ({ frames := 2, cells := 0, slots := 0, locals := 49 }) (dC, dI) (tX cA) (wX h0 b cA) h0 [] sz σ (x_chg σ) σ := by
  refine Met.ofW (cc := cX0_changedPlaces) (maxL := 4) (ret := (some .int)) (by decide) rfl ?_
  intro p e s m args below meth c s₁ B hml hv
  obtain ⟨rfl, hsz, hP, hK, hD0⟩ := hv
  have hx := B.exec
  have hb := B.bytes
  have hr := B.returns
  have hts := atoms_spec (ws := (ws_ yX0_changedPlaces cX0_changedPlaces 4 (some .int))) B.pre
  have hts : ∀ w ∈ lw_all, w.before _ s = true := fun w h => hts w (List.mem_cons_of_mem _ h)
  have hown : s.vm.findClass RX0 = some m.cls := findClass_of_methodNamed B.named
  have hlocks := B.notSynchronized
  subst hsz
  have hD := hD0.self (sz := s.heap.size)
  generalize hAe : va_A (wX h0 b cA σ) s.heap.size = A at hD ⊢
  have hA : ∀ q : Nat, s.heap.size ≤ q → A q := fun q h => by rw [← hAe]; exact Or.inr h
  have hS : va_S A s.heap s.heap [] := va_S.rf
  have hl := lv_entry ([.ref h0]) (n := 4) (Nat.le_of_ble_eq_true rfl)
  rw [lg_entry_eq]
  generalize (lg_sl ([.ref h0]) ++ List.replicate (4 - (lg_sl ([.ref h0])).length) Slot.unset).toArray = ls at hl ⊢
  have hl : lv_has ls 4 [(0, .ref h0)] := hl
  refine lv_aload_n hx hb dX0_changedPlaces_0 rfl (lv_at hl 0 rfl) ?_
  refine lv_aload_n hx hb dX0_changedPlaces_1 rfl (lv_at hl 0 rfl) ?_
  refine va_get (D := (dC, dI)) (ci := 0) (v := .int (σ.1 15)) (C := RX0) (T := TX0) (N := 17) hx hb hts in_X0 hown hK hP 0 rfl rfl 15 (by decide) (hts _ q51) (fun _ h9 => h9) rfl dX0_changedPlaces_2 ?_
  refine lv_if_ge (tgt := 12) hx hb dX0_changedPlaces_5 (by decide) (fun c_5 => ?_) (fun c_5 => ?_)
  · refine lv_iconst (v := 1) hx hb dX0_changedPlaces_12 (by decide) ?_
    refine lv_aload_n hx hb dX0_changedPlaces_13 rfl (lv_at hl 0 rfl) ?_
    refine va_get (D := (dC, dI)) (ci := 0) (v := .int (σ.1 15)) (C := RX0) (T := TX0) (N := 17) hx hb hts in_X0 hown hK hP 0 rfl rfl 15 (by decide) (hts _ q51) (fun _ h9 => h9) rfl dX0_changedPlaces_14 ?_
    refine lv_ishl hx hb dX0_changedPlaces_17 ?_
    refine lv_tope (y := bitO (σ.1 15)) (by simp only [bitO, if_pos c_5]) ?_
    refine ca_i (D := (dC, dI)) (wf := wX h0 b cA) hx hb hml hown hts (metX0_closure l dC dI h0 b cA _ σ (bitO (σ.1 15))) (cwV 1 hts (lw_V q102 q104 qs2 q26 q105) rfl rfl rfl (by decide +kernel) ⟨Nat.le_of_ble_eq_true rfl, Nat.le_of_ble_eq_true rfl⟩) hK hP hD hS hA 0 0 rfl rfl rfl hl.1 rfl (lv_room (Nat.le_of_ble_eq_true rfl)) dX0_changedPlaces_18 ⟨Nat.le_of_ble_eq_true rfl, Nat.le_of_ble_eq_true rfl⟩ (fun H locs hP hD hS => ?_)
    refine lv_istore_n (lv' := [(1, .int (x_clo σ (bitO (σ.1 15)))), (0, .ref h0)]) hx hb dX0_changedPlaces_21 rfl hl (by decide) rfl (fun ls hl => ?_)
    refine lv_iconst (v := 0) hx hb dX0_changedPlaces_22 (by decide) ?_
    refine lv_istore_n (lv' := [(2, .int 0), (1, .int (x_clo σ (bitO (σ.1 15)))), (0, .ref h0)]) hx hb dX0_changedPlaces_23 rfl hl (by decide) rfl (fun ls hl => ?_)
    refine lv_iconst (v := 0) hx hb dX0_changedPlaces_24 (by decide) ?_
    refine lv_istore_n (lv' := [(3, .int 0), (2, .int 0), (1, .int (x_clo σ (bitO (σ.1 15)))), (0, .ref h0)]) hx hb dX0_changedPlaces_25 rfl hl (by decide) rfl (fun ls hl => ?_)
    refine lpX0_changedPlaces_26 hx hb hml hown hts hA hK (x_clo σ (bitO (σ.1 15))) 12 0 0 σ rfl  _ _ hP hD hS ls (lv_sub hl [3, 2, 1, 0] rfl) (fun H locs hP hD hS ls hl => ?_)
    refine lv_iload_n hx hb dX0_changedPlaces_60 rfl (lv_at hl 0 rfl) ?_
    have hqr : chgL σ (x_clo σ (bitO (σ.1 15))) 12 0 0 = x_chg σ := by simp only [x_chg, x_reachS, if_pos c_5]
    have hqs : σ = σ := rfl
    exact W.iret (v := chgL σ (x_clo σ (bitO (σ.1 15))) 12 0 0) hx hb hr (fun t ht hW => ⟨⟨chgL σ (x_clo σ (bitO (σ.1 15))) 12 0 0, σ, rfl, ⟨hqr, hqs⟩, by rw [ht]; exact hP, va_K.moved hW.alike hK, hD⟩, hS.F ht⟩) hS.2.2 dX0_changedPlaces_61
  · refine lv_iconst (v := 0) hx hb dX0_changedPlaces_8 (by decide) ?_
    refine lv_goto (tgt := 18) hx hb dX0_changedPlaces_9 (by decide) ?_
    refine lv_tope (y := bitO (σ.1 15)) (by simp only [bitO, if_neg c_5]) ?_
    refine ca_i (D := (dC, dI)) (wf := wX h0 b cA) hx hb hml hown hts (metX0_closure l dC dI h0 b cA _ σ (bitO (σ.1 15))) (cwV 1 hts (lw_V q102 q104 qs2 q26 q105) rfl rfl rfl (by decide +kernel) ⟨Nat.le_of_ble_eq_true rfl, Nat.le_of_ble_eq_true rfl⟩) hK hP hD hS hA 0 0 rfl rfl rfl hl.1 rfl (lv_room (Nat.le_of_ble_eq_true rfl)) dX0_changedPlaces_18 ⟨Nat.le_of_ble_eq_true rfl, Nat.le_of_ble_eq_true rfl⟩ (fun H locs hP hD hS => ?_)
    refine lv_istore_n (lv' := [(1, .int (x_clo σ (bitO (σ.1 15)))), (0, .ref h0)]) hx hb dX0_changedPlaces_21 rfl hl (by decide) rfl (fun ls hl => ?_)
    refine lv_iconst (v := 0) hx hb dX0_changedPlaces_22 (by decide) ?_
    refine lv_istore_n (lv' := [(2, .int 0), (1, .int (x_clo σ (bitO (σ.1 15)))), (0, .ref h0)]) hx hb dX0_changedPlaces_23 rfl hl (by decide) rfl (fun ls hl => ?_)
    refine lv_iconst (v := 0) hx hb dX0_changedPlaces_24 (by decide) ?_
    refine lv_istore_n (lv' := [(3, .int 0), (2, .int 0), (1, .int (x_clo σ (bitO (σ.1 15)))), (0, .ref h0)]) hx hb dX0_changedPlaces_25 rfl hl (by decide) rfl (fun ls hl => ?_)
    refine lpX0_changedPlaces_26 hx hb hml hown hts hA hK (x_clo σ (bitO (σ.1 15))) 12 0 0 σ rfl  _ _ hP hD hS ls (lv_sub hl [3, 2, 1, 0] rfl) (fun H locs hP hD hS ls hl => ?_)
    refine lv_iload_n hx hb dX0_changedPlaces_60 rfl (lv_at hl 0 rfl) ?_
    have hqr : chgL σ (x_clo σ (bitO (σ.1 15))) 12 0 0 = x_chg σ := by simp only [x_chg, x_reachS, if_neg c_5]
    have hqs : σ = σ := rfl
    exact W.iret (v := chgL σ (x_clo σ (bitO (σ.1 15))) 12 0 0) hx hb hr (fun t ht hW => ⟨⟨chgL σ (x_clo σ (bitO (σ.1 15))) 12 0 0, σ, rfl, ⟨hqr, hqs⟩, by rw [ht]; exact hP, va_K.moved hW.alike hK, hD⟩, hS.F ht⟩) hS.2.2 dX0_changedPlaces_61

set_option maxHeartbeats 4000000 in
theorem lpX0_writeLog_12 {p : Program} {l : Launch} {e : Env} {s : State} {m : MethodId} {below : List Frame} {meth : Method} {c : Code} {args : Array Value} {Q : State → Prop} {dC : Nat → ClassId} {dI : Nat → Nat → Nat} {A : Nat → Prop} {h0 : Nat} {b : Nat → Nat} {cA : Nat → ClassId} (hx : p.tables.exec = Jvm.exec) (hb : c.code = cX0_writeLog) (hml : c.maxLocals = 4) (hown : s.vm.findClass RX0 = some m.cls) (hts : ∀ w ∈ lw_all, w.before args s = true) (hA : ∀ q : Nat, s.heap.size ≤ q → A q) (hK : va_K (dC, dI) vwCl (tX cA) s) (p1 : Int32) (p2 : Int32) :
    ∀ (n i : Nat) (k : Nat) (σ : XS), i + n = 12 → (okX σ) → (σ.1 4 = nI k) → (k ≤ i) → ∀ (H : Heap) (locs : List Loc), va_P (dC, dI) vwCl (wX h0 b cA σ) H → va_D A (wX h0 b cA σ) → va_S A s.heap H locs → ∀ (ls : Array Slot), lv_has ls 4 [(0, .ref h0), (1, .int p1), (2, .int p2), (3, .int (nI i))] →
    (∀ (H : Heap) (locs : List Loc), va_P (dC, dI) vwCl (wX h0 b cA (wlL p1 p2 n i σ)) H → va_D A (wX h0 b cA (wlL p1 p2 n i σ)) → va_S A s.heap H locs → ∀ (ls : Array Slot), lv_has ls 4 [] → W p l e (headSpec (ws_ yX0_writeLog cX0_writeLog 4 none) ({ frames := 1, cells := 0, slots := 0, locals := 21 })).room s m args below meth c H locs 0 0 Q (F0 m 126 ls [])) → W p l e (headSpec (ws_ yX0_writeLog cX0_writeLog 4 none) ({ frames := 1, cells := 0, slots := 0, locals := 21 })).room s m args below meth c H locs 0 0 Q (F0 m 12 ls []) := by
  intro n
  induction n with
  | zero =>
    intro i k σ hin hi0 hi1 hi2 H locs hP hD hS ls hl hk
    obtain rfl : i = 12 := by omega
    refine lv_iload_n hx hb dX0_writeLog_12 rfl (lv_at hl 3 rfl) ?_
    refine lv_bipush (v := 12) hx hb dX0_writeLog_13 (by decide) ?_
    refine lv_icmp_ge (tgt := 126) hx hb dX0_writeLog_15 (by decide) (fun c_15 => ?_) (fun c_15 => ?_)
    · exact hk _ _ hP hD hS ls (lv_sub hl [] rfl)
    · exact absurd (by decide +kernel) c_15
  | succ n ih =>
    intro i k σ hin hi0 hi1 hi2 H locs hP hD hS ls hl hk
    have hi : i < 12 := by omega
    refine lv_iload_n hx hb dX0_writeLog_12 rfl (lv_at hl 3 rfl) ?_
    refine lv_bipush (v := 12) hx hb dX0_writeLog_13 (by decide) ?_
    refine lv_icmp_ge (tgt := 126) hx hb dX0_writeLog_15 (by decide) (fun c_15 => ?_) (fun c_15 => ?_)
    · exact absurd c_15 (nI_ge (b := 12) (by omega) (by decide))
    · refine lv_aload_n hx hb dX0_writeLog_18 rfl (lv_at hl 0 rfl) ?_
      refine va_get (D := (dC, dI)) (ci := 0) (v := .int (σ.1 4)) (C := RX0) (T := TX0) (N := 17) hx hb hts in_X0 hown hK hP 0 rfl rfl 4 (by decide) (hts _ q40) (fun _ h9 => h9) rfl dX0_writeLog_19 ?_
      refine lv_iload_n hx hb dX0_writeLog_22 rfl (lv_at hl 2 rfl) ?_
      refine lv_icmp_ge (tgt := 126) hx hb dX0_writeLog_23 (by decide) (fun c_23 => ?_) (fun c_23 => ?_)
      · rw [show wlL p1 p2 (n + 1) i σ = σ from by simp only [wlL, btI, if_neg c_15, if_pos c_23]] at hk
        exact hk _ _ hP hD hS ls (lv_sub hl [] rfl)
      · refine lv_iload_n hx hb dX0_writeLog_26 rfl (lv_at hl 1 rfl) ?_
        refine lv_iload_n hx hb dX0_writeLog_27 rfl (lv_at hl 3 rfl) ?_
        refine lv_ishr hx hb dX0_writeLog_28 ?_
        refine lv_iconst (v := 1) hx hb dX0_writeLog_29 (by decide) ?_
        refine lv_iand hx hb dX0_writeLog_30 ?_
        refine lv_if_ne (tgt := 37) hx hb dX0_writeLog_31 (by decide) (fun c_31 => ?_) (fun c_31 => ?_)
        · refine lv_aload_n hx hb dX0_writeLog_37 rfl (lv_at hl 0 rfl) ?_
          refine lv_iload_n hx hb dX0_writeLog_38 rfl (lv_at hl 3 rfl) ?_
          refine ca_v (D := (dC, dI)) (wf := wX h0 b cA) hx hb hml hown hts (metX0_bringIn l dC dI h0 b cA _ σ i (by omega) hi0) (cwV 1 hts (lw_V q130 q132 qs6 q26 q133) rfl rfl rfl (by decide +kernel) ⟨Nat.le_of_ble_eq_true rfl, Nat.le_of_ble_eq_true rfl⟩) hK hP hD hS hA 0 0 rfl rfl rfl hl.1 rfl (lv_room (Nat.le_of_ble_eq_true rfl)) dX0_writeLog_39 ⟨Nat.le_of_ble_eq_true rfl, Nat.le_of_ble_eq_true rfl⟩ (fun H locs hP hD hS => ?_)
          have hlc : (x_bring σ i).1 4 = nI k := (x_bring_4 σ i).trans hi1
          have hkc : (nI k).toNatClampNeg = k := nI_clamp (by omega)
          refine lv_aload_n hx hb dX0_writeLog_42 rfl (lv_at hl 0 rfl) ?_
          refine va_get (D := (dC, dI)) (ci := 0) (v := .ref (b 5)) (C := RX0) (T := TX0) (N := 17) hx hb hts in_X0 hown hK hP 0 rfl rfl 5 (by decide) (hts _ q41) (fun _ h9 => h9) rfl dX0_writeLog_43 ?_
          refine lv_aload_n hx hb dX0_writeLog_46 rfl (lv_at hl 0 rfl) ?_
          refine va_get (D := (dC, dI)) (ci := 0) (v := .int ((x_bring σ i).1 4)) (C := RX0) (T := TX0) (N := 17) hx hb hts in_X0 hown hK hP 0 rfl rfl 4 (by decide) (hts _ q40) (fun _ h9 => h9) rfl dX0_writeLog_47 ?_
          refine lv_tope (hlc) ?_
          refine lv_iload_n hx hb dX0_writeLog_50 rfl (lv_at hl 3 rfl) ?_
          refine lv_i2b (v := nI i) hx hb dX0_writeLog_51 (ok_byte _ (by omega)) ?_
          refine xa_bast (D := (dC, dI)) (f := (x_bring σ i).2 5) hx hb hK hP hD hS 3 2 rfl rfl k rfl (by omega) (by decide) (ok_byte _ (by omega)) dX0_writeLog_52 (fun H locs hP hD hS => ?_)
          have hP : va_P (dC, dI) vwCl (wX h0 b cA (setA (x_bring σ i) 5 k (nI i))) H := hP
          have hD : va_D A (wX h0 b cA (setA (x_bring σ i) 5 k (nI i))) := hD
          refine lv_aload_n hx hb dX0_writeLog_53 rfl (lv_at hl 0 rfl) ?_
          refine va_get (D := (dC, dI)) (ci := 0) (v := .ref (b 6)) (C := RX0) (T := TX0) (N := 17) hx hb hts in_X0 hown hK hP 0 rfl rfl 6 (by decide) (hts _ q42) (fun _ h9 => h9) rfl dX0_writeLog_54 ?_
          refine lv_aload_n hx hb dX0_writeLog_57 rfl (lv_at hl 0 rfl) ?_
          refine va_get (D := (dC, dI)) (ci := 0) (v := .int ((x_bring σ i).1 4)) (C := RX0) (T := TX0) (N := 17) hx hb hts in_X0 hown hK hP 0 rfl rfl 4 (by decide) (hts _ q40) (fun _ h9 => h9) rfl dX0_writeLog_58 ?_
          refine lv_tope (hlc) ?_
          refine lv_aload_n hx hb dX0_writeLog_61 rfl (lv_at hl 0 rfl) ?_
          refine va_get (D := (dC, dI)) (ci := 0) (v := .ref (b 12)) (C := RX0) (T := TX0) (N := 17) hx hb hts in_X0 hown hK hP 0 rfl rfl 12 (by decide) (hts _ q48) (fun _ h9 => h9) rfl dX0_writeLog_62 ?_
          refine lv_iload_n hx hb dX0_writeLog_65 rfl (lv_at hl 3 rfl) ?_
          refine xa_iald (D := (dC, dI)) (f := (x_bring σ i).2 12) hx hb hK hP 6 5 rfl rfl i rfl (by omega) (by decide) dX0_writeLog_66 ?_
          refine xa_iast (D := (dC, dI)) (f := (x_bring σ i).2 6) hx hb hK hP hD hS 4 3 rfl rfl k rfl (by omega) (by decide) dX0_writeLog_67 (fun H locs hP hD hS => ?_)
          have hP : va_P (dC, dI) vwCl (wX h0 b cA (setA (setA (x_bring σ i) 5 k (nI i)) 6 k ((x_bring σ i).2 12 i))) H := hP
          have hD : va_D A (wX h0 b cA (setA (setA (x_bring σ i) 5 k (nI i)) 6 k ((x_bring σ i).2 12 i))) := hD
          refine lv_aload_n hx hb dX0_writeLog_68 rfl (lv_at hl 0 rfl) ?_
          refine va_get (D := (dC, dI)) (ci := 0) (v := .ref (b 7)) (C := RX0) (T := TX0) (N := 17) hx hb hts in_X0 hown hK hP 0 rfl rfl 7 (by decide) (hts _ q43) (fun _ h9 => h9) rfl dX0_writeLog_69 ?_
          refine lv_iconst (v := 2) hx hb dX0_writeLog_72 (by decide) ?_
          refine lv_aload_n hx hb dX0_writeLog_73 rfl (lv_at hl 0 rfl) ?_
          refine va_get (D := (dC, dI)) (ci := 0) (v := .int ((x_bring σ i).1 4)) (C := RX0) (T := TX0) (N := 17) hx hb hts in_X0 hown hK hP 0 rfl rfl 4 (by decide) (hts _ q40) (fun _ h9 => h9) rfl dX0_writeLog_74 ?_
          refine lv_tope (hlc) ?_
          refine lv_imul hx hb dX0_writeLog_77 ?_
          refine lv_tope (e2m _) ?_
          refine lv_aload_n hx hb dX0_writeLog_78 rfl (lv_at hl 0 rfl) ?_
          refine va_get (D := (dC, dI)) (ci := 0) (v := .ref (b 13)) (C := RX0) (T := TX0) (N := 17) hx hb hts in_X0 hown hK hP 0 rfl rfl 13 (by decide) (hts _ q49) (fun _ h9 => h9) rfl dX0_writeLog_79 ?_
          refine lv_iconst (v := 2) hx hb dX0_writeLog_82 (by decide) ?_
          refine lv_iload_n hx hb dX0_writeLog_83 rfl (lv_at hl 3 rfl) ?_
          refine lv_imul hx hb dX0_writeLog_84 ?_
          refine lv_tope (e2m _) ?_
          refine xa_bald (D := (dC, dI)) (f := (x_bring σ i).2 13) hx hb hK hP 7 6 rfl rfl (2 * i) rfl (by omega) (by decide) dX0_writeLog_85 ?_
          refine xa_bast (D := (dC, dI)) (f := (x_bring σ i).2 7) hx hb hK hP hD hS 5 4 rfl rfl (2 * k) rfl (by omega) (by decide) (okv_byte ((okX_bring i hi0).2.1 _)) dX0_writeLog_86 (fun H locs hP hD hS => ?_)
          have hP : va_P (dC, dI) vwCl (wX h0 b cA (setA (setA (setA (x_bring σ i) 5 k (nI i)) 6 k ((x_bring σ i).2 12 i)) 7 (2 * k) ((x_bring σ i).2 13 (2 * i)))) H := hP
          have hD : va_D A (wX h0 b cA (setA (setA (setA (x_bring σ i) 5 k (nI i)) 6 k ((x_bring σ i).2 12 i)) 7 (2 * k) ((x_bring σ i).2 13 (2 * i)))) := hD
          refine lv_aload_n hx hb dX0_writeLog_87 rfl (lv_at hl 0 rfl) ?_
          refine va_get (D := (dC, dI)) (ci := 0) (v := .ref (b 7)) (C := RX0) (T := TX0) (N := 17) hx hb hts in_X0 hown hK hP 0 rfl rfl 7 (by decide) (hts _ q43) (fun _ h9 => h9) rfl dX0_writeLog_88 ?_
          refine lv_iconst (v := 2) hx hb dX0_writeLog_91 (by decide) ?_
          refine lv_aload_n hx hb dX0_writeLog_92 rfl (lv_at hl 0 rfl) ?_
          refine va_get (D := (dC, dI)) (ci := 0) (v := .int ((x_bring σ i).1 4)) (C := RX0) (T := TX0) (N := 17) hx hb hts in_X0 hown hK hP 0 rfl rfl 4 (by decide) (hts _ q40) (fun _ h9 => h9) rfl dX0_writeLog_93 ?_
          refine lv_tope (hlc) ?_
          refine lv_imul hx hb dX0_writeLog_96 ?_
          refine lv_tope (e2m _) ?_
          refine lv_iconst (v := 1) hx hb dX0_writeLog_97 (by decide) ?_
          refine lv_iadd hx hb dX0_writeLog_98 ?_
          refine lv_tope (nI_1 _) ?_
          refine lv_aload_n hx hb dX0_writeLog_99 rfl (lv_at hl 0 rfl) ?_
          refine va_get (D := (dC, dI)) (ci := 0) (v := .ref (b 13)) (C := RX0) (T := TX0) (N := 17) hx hb hts in_X0 hown hK hP 0 rfl rfl 13 (by decide) (hts _ q49) (fun _ h9 => h9) rfl dX0_writeLog_100 ?_
          refine lv_iconst (v := 2) hx hb dX0_writeLog_103 (by decide) ?_
          refine lv_iload_n hx hb dX0_writeLog_104 rfl (lv_at hl 3 rfl) ?_
          refine lv_imul hx hb dX0_writeLog_105 ?_
          refine lv_tope (e2m _) ?_
          refine lv_iconst (v := 1) hx hb dX0_writeLog_106 (by decide) ?_
          refine lv_iadd hx hb dX0_writeLog_107 ?_
          refine lv_tope (nI_1 _) ?_
          refine xa_bald (D := (dC, dI)) (f := (x_bring σ i).2 13) hx hb hK hP 7 6 rfl rfl (2 * i + 1) rfl (by omega) (by decide) dX0_writeLog_108 ?_
          refine xa_bast (D := (dC, dI)) (f := (setA (setA (setA (x_bring σ i) 5 k (nI i)) 6 k ((x_bring σ i).2 12 i)) 7 (2 * k) ((x_bring σ i).2 13 (2 * i))).2 7) hx hb hK hP hD hS 5 4 rfl rfl (2 * k + 1) rfl (by omega) (by decide) (okv_byte ((okX_bring i hi0).2.1 _)) dX0_writeLog_109 (fun H locs hP hD hS => ?_)
          have hP : va_P (dC, dI) vwCl (wX h0 b cA (setA (setA (setA (setA (x_bring σ i) 5 k (nI i)) 6 k ((x_bring σ i).2 12 i)) 7 (2 * k) ((x_bring σ i).2 13 (2 * i))) 7 (2 * k + 1) ((x_bring σ i).2 13 (2 * i + 1)))) H := hP
          have hD : va_D A (wX h0 b cA (setA (setA (setA (setA (x_bring σ i) 5 k (nI i)) 6 k ((x_bring σ i).2 12 i)) 7 (2 * k) ((x_bring σ i).2 13 (2 * i))) 7 (2 * k + 1) ((x_bring σ i).2 13 (2 * i + 1)))) := hD
          refine lv_aload_n hx hb dX0_writeLog_110 rfl (lv_at hl 0 rfl) ?_
          refine lv_dup hx hb dX0_writeLog_111 rfl ?_
          refine va_get (D := (dC, dI)) (ci := 0) (v := .int ((x_bring σ i).1 4)) (C := RX0) (T := TX0) (N := 17) hx hb hts in_X0 hown hK hP 0 rfl rfl 4 (by decide) (hts _ q40) (fun _ h9 => h9) rfl dX0_writeLog_112 ?_
          refine lv_tope (hlc) ?_
          refine lv_iconst (v := 1) hx hb dX0_writeLog_115 (by decide) ?_
          refine lv_iadd hx hb dX0_writeLog_116 ?_
          refine lv_tope (nI_1 _) ?_
          refine va_put (D := (dC, dI)) (ci := 0) (v := .int (nI (k + 1))) (ty := .int) (C := RX0) (T := TX0) (N := 17) hx hb hts in_X0 tyX0 tyX0_ok nmX0 hown hK hP hD hS 0 rfl rfl 4 (by decide) (hts _ q40) (fun _ h9 => h9) rfl (by decide +kernel) rfl rfl (Nat.le_of_ble_eq_true rfl) dX0_writeLog_117 (fun H locs hP hD hS => ?_)
          have hP : va_P (dC, dI) vwCl (wX h0 b cA (setF (setA (setA (setA (setA (x_bring σ i) 5 k (nI i)) 6 k ((x_bring σ i).2 12 i)) 7 (2 * k) ((x_bring σ i).2 13 (2 * i))) 7 (2 * k + 1) ((x_bring σ i).2 13 (2 * i + 1))) 4 (nI (k + 1)))) H := hP
          have hD : va_D A (wX h0 b cA (setF (setA (setA (setA (setA (x_bring σ i) 5 k (nI i)) 6 k ((x_bring σ i).2 12 i)) 7 (2 * k) ((x_bring σ i).2 13 (2 * i))) 7 (2 * k + 1) ((x_bring σ i).2 13 (2 * i + 1))) 4 (nI (k + 1)))) := hD
          refine lv_iinc (v := nI (i + 1)) (lv' := [(3, .int (nI (i + 1))), (0, .ref h0), (1, .int p1), (2, .int p2)]) hx hb dX0_writeLog_120 hl (k := 3) rfl (nI_1 _) (by decide) rfl (fun ls hl => ?_)
          refine lv_goto (tgt := 12) hx hb dX0_writeLog_123 (by decide) ?_
          rw [show wlL p1 p2 (n + 1) i σ = wlL p1 p2 n (i + 1) (setF (setA (setA (setA (setA (x_bring σ i) 5 k (nI i)) 6 k ((x_bring σ i).2 12 i)) 7 (2 * k) ((x_bring σ i).2 13 (2 * i))) 7 (2 * k + 1) ((x_bring σ i).2 13 (2 * i + 1))) 4 (nI (k + 1))) from by simp only [wlL, btI, if_neg c_15, if_neg c_23, if_neg c_31, wl1, wl2, hlc, hkc]] at hk
          exact ih (i + 1) (k + 1) (setF (setA (setA (setA (setA (x_bring σ i) 5 k (nI i)) 6 k ((x_bring σ i).2 12 i)) 7 (2 * k) ((x_bring σ i).2 13 (2 * i))) 7 (2 * k + 1) ((x_bring σ i).2 13 (2 * i + 1))) 4 (nI (k + 1))) (by omega) (okX_wl2 hi (by omega) (okX_bring i hi0)) rfl (by omega) _ _ hP hD hS ls (lv_sub hl [1, 2, 3, 0] rfl) hk
        · refine lv_goto (tgt := 120) hx hb dX0_writeLog_34 (by decide) ?_
          refine lv_iinc (v := nI (i + 1)) (lv' := [(3, .int (nI (i + 1))), (0, .ref h0), (1, .int p1), (2, .int p2)]) hx hb dX0_writeLog_120 hl (k := 3) rfl (nI_1 _) (by decide) rfl (fun ls hl => ?_)
          refine lv_goto (tgt := 12) hx hb dX0_writeLog_123 (by decide) ?_
          rw [show wlL p1 p2 (n + 1) i σ = wlL p1 p2 n (i + 1) σ from by simp only [wlL, btI, if_neg c_15, if_neg c_23, if_pos c_31]] at hk
          exact ih (i + 1) k σ (by omega) hi0 hi1 (by omega) _ _ hP hD hS ls (lv_sub hl [1, 2, 3, 0] rfl) hk

set_option maxHeartbeats 4000000 in
theorem metX0_writeLog (l : Launch) (dC : Nat → ClassId) (dI : Nat → Nat → Nat) (h0 : Nat) (b : Nat → Nat) (cA : Nat → ClassId) (sz : Nat) (σ : XS) (p1 : Int32) (p2 : Int32) (hok : okX σ) : MetV l yX0_writeLog (ws_ yX0_writeLog cX0_writeLog 4 none) ({ frames := 1, cells := 0, slots := 0, locals := 21 }) (dC, dI) (tX cA) (wX h0 b cA) h0 [.int p1, .int p2] sz σ (x_wlog σ p1 p2) := by
  refine Met.ofW (cc := cX0_writeLog) (maxL := 4) (ret := none) (by decide) rfl ?_
  intro p e s m args below meth c s₁ B hml hv
  obtain ⟨rfl, hsz, hP, hK, hD0⟩ := hv
  have hx := B.exec
  have hb := B.bytes
  have hr := B.returns
  have hts := atoms_spec (ws := (ws_ yX0_writeLog cX0_writeLog 4 none)) B.pre
  have hts : ∀ w ∈ lw_all, w.before _ s = true := fun w h => hts w (List.mem_cons_of_mem _ h)
  have hown : s.vm.findClass RX0 = some m.cls := findClass_of_methodNamed B.named
  have hlocks := B.notSynchronized
  subst hsz
  have hD := hD0.self (sz := s.heap.size)
  generalize hAe : va_A (wX h0 b cA σ) s.heap.size = A at hD ⊢
  have hA : ∀ q : Nat, s.heap.size ≤ q → A q := fun q h => by rw [← hAe]; exact Or.inr h
  have hS : va_S A s.heap s.heap [] := va_S.rf
  have hl := lv_entry ([.ref h0, .int p1, .int p2]) (n := 4) (Nat.le_of_ble_eq_true rfl)
  rw [lg_entry_eq]
  generalize (lg_sl ([.ref h0, .int p1, .int p2]) ++ List.replicate (4 - (lg_sl ([.ref h0, .int p1, .int p2])).length) Slot.unset).toArray = ls at hl ⊢
  have hl : lv_has ls 4 [(0, .ref h0), (1, .int p1), (2, .int p2)] := hl
  refine lv_aload_n hx hb dX0_writeLog_0 rfl (lv_at hl 0 rfl) ?_
  refine lv_iconst (v := 0) hx hb dX0_writeLog_1 (by decide) ?_
  refine va_put (D := (dC, dI)) (ci := 0) (v := .int 0) (ty := .int) (C := RX0) (T := TX0) (N := 17) hx hb hts in_X0 tyX0 tyX0_ok nmX0 hown hK hP hD hS 0 rfl rfl 4 (by decide) (hts _ q40) (fun _ h9 => h9) rfl (by decide +kernel) rfl rfl (Nat.le_of_ble_eq_true rfl) dX0_writeLog_2 (fun H locs hP hD hS => ?_)
  have hP : va_P (dC, dI) vwCl (wX h0 b cA (setF σ 4 0)) H := hP
  have hD : va_D A (wX h0 b cA (setF σ 4 0)) := hD
  refine lv_aload_n hx hb dX0_writeLog_5 rfl (lv_at hl 0 rfl) ?_
  refine lv_iconst (v := 0) hx hb dX0_writeLog_6 (by decide) ?_
  refine va_put (D := (dC, dI)) (ci := 0) (v := .int 0) (ty := .boolean) (C := RX0) (T := TX0) (N := 17) hx hb hts in_X0 tyX0 tyX0_ok nmX0 hown hK hP hD hS 0 rfl rfl 8 (by decide) (hts _ q44) (fun _ h9 => h9) rfl (by decide +kernel) rfl rfl (Nat.le_of_ble_eq_true rfl) dX0_writeLog_7 (fun H locs hP hD hS => ?_)
  have hP : va_P (dC, dI) vwCl (wX h0 b cA (setF (setF σ 4 0) 8 0)) H := hP
  have hD : va_D A (wX h0 b cA (setF (setF σ 4 0) 8 0)) := hD
  refine lv_iconst (v := 0) hx hb dX0_writeLog_10 (by decide) ?_
  refine lv_istore_n (lv' := [(3, .int 0), (0, .ref h0), (1, .int p1), (2, .int p2)]) hx hb dX0_writeLog_11 rfl hl (by decide) rfl (fun ls hl => ?_)
  refine lpX0_writeLog_12 hx hb hml hown hts hA hK p1 p2 12 0 0 (setF (setF σ 4 0) 8 0) rfl (okX_48 hok) rfl (Nat.le_refl 0) _ _ hP hD hS ls (lv_sub hl [1, 2, 3, 0] rfl) (fun H locs hP hD hS ls hl => ?_)
  have hqs : (wlL p1 p2 12 0 (setF (setF σ 4 0) 8 0)) = x_wlog σ p1 p2 := by simp only [x_wlog]
  exact W.vret hx hb hr (fun t ht hW => ⟨⟨(wlL p1 p2 12 0 (setF (setF σ 4 0) 8 0)), rfl, hqs, by rw [ht]; exact hP, va_K.moved hW.alike hK, hD⟩, hS.F ht⟩) hS.2.2 dX0_writeLog_126
end
section
set_option maxRecDepth 100000
set_option maxHeartbeats 4000000 in
theorem metX0_writeMark (l : Launch) (dC : Nat → ClassId) (dI : Nat → Nat → Nat) (h0 : Nat) (b : Nat → Nat) (cA : Nat → ClassId) (sz : Nat) (σ : XS) : MetV l yX0_writeMark (ws_ yX0_writeMark cX0_writeMark 1 none) ({ frames := 2, cells := 0, slots := 0, locals := 49 }) (dC, dI) (tX cA) (wX h0 b cA) h0 [] sz σ (x_mark σ) := by
  refine Met.ofW (cc := cX0_writeMark) (maxL := 1) (ret := none) (by decide) rfl ?_
  intro p e s m args below meth c s₁ B hml hv
  obtain ⟨rfl, hsz, hP, hK, hD0⟩ := hv
  have hx := B.exec
  have hb := B.bytes
  have hr := B.returns
  have hts := atoms_spec (ws := (ws_ yX0_writeMark cX0_writeMark 1 none)) B.pre
  have hts : ∀ w ∈ lw_all, w.before _ s = true := fun w h => hts w (List.mem_cons_of_mem _ h)
  have hown : s.vm.findClass RX0 = some m.cls := findClass_of_methodNamed B.named
  have hlocks := B.notSynchronized
  subst hsz
  have hD := hD0.self (sz := s.heap.size)
  generalize hAe : va_A (wX h0 b cA σ) s.heap.size = A at hD ⊢
  have hA : ∀ q : Nat, s.heap.size ≤ q → A q := fun q h => by rw [← hAe]; exact Or.inr h
  have hS : va_S A s.heap s.heap [] := va_S.rf
  have hl := lv_entry ([.ref h0]) (n := 1) (Nat.le_of_ble_eq_true rfl)
  rw [lg_entry_eq]
  generalize (lg_sl ([.ref h0]) ++ List.replicate (1 - (lg_sl ([.ref h0])).length) Slot.unset).toArray = ls at hl ⊢
  have hl : lv_has ls 1 [(0, .ref h0)] := hl
  refine lv_aload_n hx hb dX0_writeMark_0 rfl (lv_at hl 0 rfl) ?_
  refine lv_aload_n hx hb dX0_writeMark_1 rfl (lv_at hl 0 rfl) ?_
  refine va_get (D := (dC, dI)) (ci := 0) (v := .int (σ.1 15)) (C := RX0) (T := TX0) (N := 17) hx hb hts in_X0 hown hK hP 0 rfl rfl 15 (by decide) (hts _ q51) (fun _ h9 => h9) rfl dX0_writeMark_2 ?_
  refine va_put (D := (dC, dI)) (ci := 0) (v := .int (σ.1 15)) (ty := .int) (C := RX0) (T := TX0) (N := 17) hx hb hts in_X0 tyX0 tyX0_ok nmX0 hown hK hP hD hS 0 rfl rfl 9 (by decide) (hts _ q45) (fun _ h9 => h9) rfl (by decide +kernel) rfl rfl (Nat.le_of_ble_eq_true rfl) dX0_writeMark_5 (fun H locs hP hD hS => ?_)
  have hP : va_P (dC, dI) vwCl (wX h0 b cA (setF σ 9 (σ.1 15))) H := hP
  have hD : va_D A (wX h0 b cA (setF σ 9 (σ.1 15))) := hD
  refine lv_aload_n hx hb dX0_writeMark_8 rfl (lv_at hl 0 rfl) ?_
  refine lv_aload_n hx hb dX0_writeMark_9 rfl (lv_at hl 0 rfl) ?_
  refine lv_aload_n hx hb dX0_writeMark_10 rfl (lv_at hl 0 rfl) ?_
  refine va_get (D := (dC, dI)) (ci := 0) (v := .int (σ.1 15)) (C := RX0) (T := TX0) (N := 17) hx hb hts in_X0 hown hK hP 0 rfl rfl 15 (by decide) (hts _ q51) (fun _ h9 => h9) rfl dX0_writeMark_11 ?_
  refine lv_if_ge (tgt := 21) hx hb dX0_writeMark_14 (by decide) (fun c_14 => ?_) (fun c_14 => ?_)
  · refine lv_iconst (v := 1) hx hb dX0_writeMark_21 (by decide) ?_
    refine lv_aload_n hx hb dX0_writeMark_22 rfl (lv_at hl 0 rfl) ?_
    refine va_get (D := (dC, dI)) (ci := 0) (v := .int (σ.1 15)) (C := RX0) (T := TX0) (N := 17) hx hb hts in_X0 hown hK hP 0 rfl rfl 15 (by decide) (hts _ q51) (fun _ h9 => h9) rfl dX0_writeMark_23 ?_
    refine lv_ishl hx hb dX0_writeMark_26 ?_
    refine lv_tope (y := bitO (σ.1 15)) (by simp only [bitO, if_pos c_14]) ?_
    refine ca_i (D := (dC, dI)) (wf := wX h0 b cA) hx hb hml hown hts (metX0_closure l dC dI h0 b cA _ (setF σ 9 (σ.1 15)) (bitO (σ.1 15))) (cwV 1 hts (lw_V q102 q104 qs2 q26 q105) rfl rfl rfl (by decide +kernel) ⟨Nat.le_of_ble_eq_true rfl, Nat.le_of_ble_eq_true rfl⟩) hK hP hD hS hA 0 0 rfl rfl rfl hl.1 rfl (lv_room (Nat.le_of_ble_eq_true rfl)) dX0_writeMark_27 ⟨Nat.le_of_ble_eq_true rfl, Nat.le_of_ble_eq_true rfl⟩ (fun H locs hP hD hS => ?_)
    refine va_put (D := (dC, dI)) (ci := 0) (v := .int (x_clo (setF σ 9 (σ.1 15)) (bitO (σ.1 15)))) (ty := .int) (C := RX0) (T := TX0) (N := 17) hx hb hts in_X0 tyX0 tyX0_ok nmX0 hown hK hP hD hS 0 rfl rfl 10 (by decide) (hts _ q46) (fun _ h9 => h9) rfl (by decide +kernel) rfl rfl (Nat.le_of_ble_eq_true rfl) dX0_writeMark_30 (fun H locs hP hD hS => ?_)
    have hP : va_P (dC, dI) vwCl (wX h0 b cA (setF (setF σ 9 (σ.1 15)) 10 (x_clo (setF σ 9 (σ.1 15)) (bitO (σ.1 15))))) H := hP
    have hD : va_D A (wX h0 b cA (setF (setF σ 9 (σ.1 15)) 10 (x_clo (setF σ 9 (σ.1 15)) (bitO (σ.1 15))))) := hD
    refine lv_aload_n hx hb dX0_writeMark_33 rfl (lv_at hl 0 rfl) ?_
    refine lv_iconst (v := 1) hx hb dX0_writeMark_34 (by decide) ?_
    refine va_put (D := (dC, dI)) (ci := 0) (v := .int 1) (ty := .boolean) (C := RX0) (T := TX0) (N := 17) hx hb hts in_X0 tyX0 tyX0_ok nmX0 hown hK hP hD hS 0 rfl rfl 8 (by decide) (hts _ q44) (fun _ h9 => h9) rfl (by decide +kernel) rfl rfl (Nat.le_of_ble_eq_true rfl) dX0_writeMark_35 (fun H locs hP hD hS => ?_)
    have hP : va_P (dC, dI) vwCl (wX h0 b cA (setF (setF (setF σ 9 (σ.1 15)) 10 (x_clo (setF σ 9 (σ.1 15)) (bitO (σ.1 15)))) 8 1)) H := hP
    have hD : va_D A (wX h0 b cA (setF (setF (setF σ 9 (σ.1 15)) 10 (x_clo (setF σ 9 (σ.1 15)) (bitO (σ.1 15)))) 8 1)) := hD
    have hqs : setF (setF (setF σ 9 (σ.1 15)) 10 (x_clo (setF σ 9 (σ.1 15)) (bitO (σ.1 15)))) 8 1 = x_mark σ := by rfl
    exact W.vret hx hb hr (fun t ht hW => ⟨⟨(setF (setF (setF σ 9 (σ.1 15)) 10 (x_clo (setF σ 9 (σ.1 15)) (bitO (σ.1 15)))) 8 1), rfl, hqs, by rw [ht]; exact hP, va_K.moved hW.alike hK, hD⟩, hS.F ht⟩) hS.2.2 dX0_writeMark_38
  · refine lv_iconst (v := 0) hx hb dX0_writeMark_17 (by decide) ?_
    refine lv_goto (tgt := 27) hx hb dX0_writeMark_18 (by decide) ?_
    refine lv_tope (y := bitO (σ.1 15)) (by simp only [bitO, if_neg c_14]) ?_
    refine ca_i (D := (dC, dI)) (wf := wX h0 b cA) hx hb hml hown hts (metX0_closure l dC dI h0 b cA _ (setF σ 9 (σ.1 15)) (bitO (σ.1 15))) (cwV 1 hts (lw_V q102 q104 qs2 q26 q105) rfl rfl rfl (by decide +kernel) ⟨Nat.le_of_ble_eq_true rfl, Nat.le_of_ble_eq_true rfl⟩) hK hP hD hS hA 0 0 rfl rfl rfl hl.1 rfl (lv_room (Nat.le_of_ble_eq_true rfl)) dX0_writeMark_27 ⟨Nat.le_of_ble_eq_true rfl, Nat.le_of_ble_eq_true rfl⟩ (fun H locs hP hD hS => ?_)
    refine va_put (D := (dC, dI)) (ci := 0) (v := .int (x_clo (setF σ 9 (σ.1 15)) (bitO (σ.1 15)))) (ty := .int) (C := RX0) (T := TX0) (N := 17) hx hb hts in_X0 tyX0 tyX0_ok nmX0 hown hK hP hD hS 0 rfl rfl 10 (by decide) (hts _ q46) (fun _ h9 => h9) rfl (by decide +kernel) rfl rfl (Nat.le_of_ble_eq_true rfl) dX0_writeMark_30 (fun H locs hP hD hS => ?_)
    have hP : va_P (dC, dI) vwCl (wX h0 b cA (setF (setF σ 9 (σ.1 15)) 10 (x_clo (setF σ 9 (σ.1 15)) (bitO (σ.1 15))))) H := hP
    have hD : va_D A (wX h0 b cA (setF (setF σ 9 (σ.1 15)) 10 (x_clo (setF σ 9 (σ.1 15)) (bitO (σ.1 15))))) := hD
    refine lv_aload_n hx hb dX0_writeMark_33 rfl (lv_at hl 0 rfl) ?_
    refine lv_iconst (v := 1) hx hb dX0_writeMark_34 (by decide) ?_
    refine va_put (D := (dC, dI)) (ci := 0) (v := .int 1) (ty := .boolean) (C := RX0) (T := TX0) (N := 17) hx hb hts in_X0 tyX0 tyX0_ok nmX0 hown hK hP hD hS 0 rfl rfl 8 (by decide) (hts _ q44) (fun _ h9 => h9) rfl (by decide +kernel) rfl rfl (Nat.le_of_ble_eq_true rfl) dX0_writeMark_35 (fun H locs hP hD hS => ?_)
    have hP : va_P (dC, dI) vwCl (wX h0 b cA (setF (setF (setF σ 9 (σ.1 15)) 10 (x_clo (setF σ 9 (σ.1 15)) (bitO (σ.1 15)))) 8 1)) H := hP
    have hD : va_D A (wX h0 b cA (setF (setF (setF σ 9 (σ.1 15)) 10 (x_clo (setF σ 9 (σ.1 15)) (bitO (σ.1 15)))) 8 1)) := hD
    have hqs : setF (setF (setF σ 9 (σ.1 15)) 10 (x_clo (setF σ 9 (σ.1 15)) (bitO (σ.1 15)))) 8 1 = x_mark σ := by rfl
    exact W.vret hx hb hr (fun t ht hW => ⟨⟨(setF (setF (setF σ 9 (σ.1 15)) 10 (x_clo (setF σ 9 (σ.1 15)) (bitO (σ.1 15)))) 8 1), rfl, hqs, by rw [ht]; exact hP, va_K.moved hW.alike hK, hD⟩, hS.F ht⟩) hS.2.2 dX0_writeMark_38

set_option maxHeartbeats 4000000 in
theorem lpX0_moveData_2 {p : Program} {l : Launch} {e : Env} {s : State} {m : MethodId} {below : List Frame} {meth : Method} {c : Code} {args : Array Value} {Q : State → Prop} {dC : Nat → ClassId} {dI : Nat → Nat → Nat} {A : Nat → Prop} {h0 : Nat} {b : Nat → Nat} {cA : Nat → ClassId} (hx : p.tables.exec = Jvm.exec) (hb : c.code = cX0_moveData) (hml : c.maxLocals = 4) (hown : s.vm.findClass RX0 = some m.cls) (hts : ∀ w ∈ lw_all, w.before args s = true) (hA : ∀ q : Nat, s.heap.size ≤ q → A q) (hK : va_K (dC, dI) vwCl (tX cA) s) (p1 : Int32) :
    ∀ (n i : Nat) (σ : XS), i + n = 12 → (okX σ) → ∀ (H : Heap) (locs : List Loc), va_P (dC, dI) vwCl (wX h0 b cA σ) H → va_D A (wX h0 b cA σ) → va_S A s.heap H locs → ∀ (ls : Array Slot), lv_has ls 4 [(0, .ref h0), (1, .int p1), (2, .int (nI i))] →
    (∀ (H : Heap) (locs : List Loc), va_P (dC, dI) vwCl (wX h0 b cA (mvL p1 n i σ)) H → va_D A (wX h0 b cA (mvL p1 n i σ)) → va_S A s.heap H locs → ∀ (ls : Array Slot), lv_has ls 4 [(0, .ref h0), (1, .int p1)] → W p l e (headSpec (ws_ yX0_moveData cX0_moveData 4 none) ({ frames := 0, cells := 0, slots := 0, locals := 0 })).room s m args below meth c H locs 0 0 Q (F0 m 76 ls [])) → W p l e (headSpec (ws_ yX0_moveData cX0_moveData 4 none) ({ frames := 0, cells := 0, slots := 0, locals := 0 })).room s m args below meth c H locs 0 0 Q (F0 m 2 ls []) := by
  intro n
  induction n with
  | zero =>
    intro i σ hin hi0 H locs hP hD hS ls hl hk
    obtain rfl : i = 12 := by omega
    refine lv_iload_n hx hb dX0_moveData_2 rfl (lv_at hl 2 rfl) ?_
    refine lv_aload_n hx hb dX0_moveData_3 rfl (lv_at hl 0 rfl) ?_
    refine va_get (D := (dC, dI)) (ci := 0) (v := .int (σ.1 4)) (C := RX0) (T := TX0) (N := 17) hx hb hts in_X0 hown hK hP 0 rfl rfl 4 (by decide) (hts _ q40) (fun _ h9 => h9) rfl dX0_moveData_4 ?_
    refine lv_icmp_ge (tgt := 76) hx hb dX0_moveData_7 (by decide) (fun c_7 => ?_) (fun c_7 => ?_)
    · exact hk _ _ hP hD hS ls (lv_sub hl [0, 1] rfl)
    · obtain ⟨z, hz, ez⟩ := hi0.2.2.2.2.2.2.2.2
      exact absurd (by rw [ez]; exact nI_le hz (by decide)) c_7
  | succ n ih =>
    intro i σ hin hi0 H locs hP hD hS ls hl hk
    have hi : i < 12 := by omega
    refine lv_iload_n hx hb dX0_moveData_2 rfl (lv_at hl 2 rfl) ?_
    refine lv_aload_n hx hb dX0_moveData_3 rfl (lv_at hl 0 rfl) ?_
    refine va_get (D := (dC, dI)) (ci := 0) (v := .int (σ.1 4)) (C := RX0) (T := TX0) (N := 17) hx hb hts in_X0 hown hK hP 0 rfl rfl 4 (by decide) (hts _ q40) (fun _ h9 => h9) rfl dX0_moveData_4 ?_
    refine lv_icmp_ge (tgt := 76) hx hb dX0_moveData_7 (by decide) (fun c_7 => ?_) (fun c_7 => ?_)
    · rw [show mvL p1 (n + 1) i σ = σ from by simp only [mvL, if_pos c_7]] at hk
      exact hk _ _ hP hD hS ls (lv_sub hl [0, 1] rfl)
    · refine lv_iload_n hx hb dX0_moveData_10 rfl (lv_at hl 2 rfl) ?_
      refine lv_iload_n hx hb dX0_moveData_11 rfl (lv_at hl 1 rfl) ?_
      refine lv_icmp_ge (tgt := 76) hx hb dX0_moveData_12 (by decide) (fun c_12 => ?_) (fun c_12 => ?_)
      · rw [show mvL p1 (n + 1) i σ = σ from by simp only [mvL, if_neg c_7, if_pos c_12]] at hk
        exact hk _ _ hP hD hS ls (lv_sub hl [0, 1] rfl)
      · obtain ⟨j, hj, ej⟩ := hi0.2.2.2.2.1 i
        have hjc : (nI j).toNatClampNeg = j := nI_clamp (by omega)
        refine lv_aload_n hx hb dX0_moveData_15 rfl (lv_at hl 0 rfl) ?_
        refine va_get (D := (dC, dI)) (ci := 0) (v := .ref (b 5)) (C := RX0) (T := TX0) (N := 17) hx hb hts in_X0 hown hK hP 0 rfl rfl 5 (by decide) (hts _ q41) (fun _ h9 => h9) rfl dX0_moveData_16 ?_
        refine lv_iload_n hx hb dX0_moveData_19 rfl (lv_at hl 2 rfl) ?_
        refine xa_bald (D := (dC, dI)) (f := σ.2 5) hx hb hK hP 3 2 rfl rfl i rfl (by omega) (by decide) dX0_moveData_20 ?_
        refine lv_tope (ej) ?_
        refine lv_istore_n (lv' := [(3, .int (nI j)), (0, .ref h0), (1, .int p1), (2, .int (nI i))]) hx hb dX0_moveData_21 rfl hl (by decide) rfl (fun ls hl => ?_)
        refine lv_aload_n hx hb dX0_moveData_22 rfl (lv_at hl 1 rfl) ?_
        refine va_get (D := (dC, dI)) (ci := 0) (v := .ref (b 0)) (C := RX0) (T := TX0) (N := 17) hx hb hts in_X0 hown hK hP 0 rfl rfl 0 (by decide) (hts _ q36) (fun _ h9 => h9) rfl dX0_moveData_23 ?_
        refine lv_iload_n hx hb dX0_moveData_26 rfl (lv_at hl 0 rfl) ?_
        refine lv_aload_n hx hb dX0_moveData_27 rfl (lv_at hl 1 rfl) ?_
        refine va_get (D := (dC, dI)) (ci := 0) (v := .ref (b 6)) (C := RX0) (T := TX0) (N := 17) hx hb hts in_X0 hown hK hP 0 rfl rfl 6 (by decide) (hts _ q42) (fun _ h9 => h9) rfl dX0_moveData_28 ?_
        refine lv_iload_n hx hb dX0_moveData_31 rfl (lv_at hl 3 rfl) ?_
        refine xa_iald (D := (dC, dI)) (f := σ.2 6) hx hb hK hP 4 3 rfl rfl i rfl (by omega) (by decide) dX0_moveData_32 ?_
        refine xa_iast (D := (dC, dI)) (f := σ.2 0) hx hb hK hP hD hS 1 0 rfl rfl j rfl (by omega) (by decide) dX0_moveData_33 (fun H locs hP hD hS => ?_)
        have hP : va_P (dC, dI) vwCl (wX h0 b cA (setA σ 0 j (σ.2 6 i))) H := hP
        have hD : va_D A (wX h0 b cA (setA σ 0 j (σ.2 6 i))) := hD
        refine lv_aload_n hx hb dX0_moveData_34 rfl (lv_at hl 1 rfl) ?_
        refine va_get (D := (dC, dI)) (ci := 0) (v := .ref (b 1)) (C := RX0) (T := TX0) (N := 17) hx hb hts in_X0 hown hK hP 0 rfl rfl 1 (by decide) (hts _ q37) (fun _ h9 => h9) rfl dX0_moveData_35 ?_
        refine lv_iconst (v := 2) hx hb dX0_moveData_38 (by decide) ?_
        refine lv_iload_n hx hb dX0_moveData_39 rfl (lv_at hl 0 rfl) ?_
        refine lv_imul hx hb dX0_moveData_40 ?_
        refine lv_tope (e2m _) ?_
        refine lv_aload_n hx hb dX0_moveData_41 rfl (lv_at hl 1 rfl) ?_
        refine va_get (D := (dC, dI)) (ci := 0) (v := .ref (b 7)) (C := RX0) (T := TX0) (N := 17) hx hb hts in_X0 hown hK hP 0 rfl rfl 7 (by decide) (hts _ q43) (fun _ h9 => h9) rfl dX0_moveData_42 ?_
        refine lv_iconst (v := 2) hx hb dX0_moveData_45 (by decide) ?_
        refine lv_iload_n hx hb dX0_moveData_46 rfl (lv_at hl 3 rfl) ?_
        refine lv_imul hx hb dX0_moveData_47 ?_
        refine lv_tope (e2m _) ?_
        refine xa_bald (D := (dC, dI)) (f := σ.2 7) hx hb hK hP 5 4 rfl rfl (2 * i) rfl (by omega) (by decide) dX0_moveData_48 ?_
        refine xa_bast (D := (dC, dI)) (f := σ.2 1) hx hb hK hP hD hS 2 1 rfl rfl (2 * j) rfl (by omega) (by decide) (okv_byte (hi0.2.2.1 _)) dX0_moveData_49 (fun H locs hP hD hS => ?_)
        have hP : va_P (dC, dI) vwCl (wX h0 b cA (setA (setA σ 0 j (σ.2 6 i)) 1 (2 * j) (σ.2 7 (2 * i)))) H := hP
        have hD : va_D A (wX h0 b cA (setA (setA σ 0 j (σ.2 6 i)) 1 (2 * j) (σ.2 7 (2 * i)))) := hD
        refine lv_aload_n hx hb dX0_moveData_50 rfl (lv_at hl 1 rfl) ?_
        refine va_get (D := (dC, dI)) (ci := 0) (v := .ref (b 1)) (C := RX0) (T := TX0) (N := 17) hx hb hts in_X0 hown hK hP 0 rfl rfl 1 (by decide) (hts _ q37) (fun _ h9 => h9) rfl dX0_moveData_51 ?_
        refine lv_iconst (v := 2) hx hb dX0_moveData_54 (by decide) ?_
        refine lv_iload_n hx hb dX0_moveData_55 rfl (lv_at hl 0 rfl) ?_
        refine lv_imul hx hb dX0_moveData_56 ?_
        refine lv_tope (e2m _) ?_
        refine lv_iconst (v := 1) hx hb dX0_moveData_57 (by decide) ?_
        refine lv_iadd hx hb dX0_moveData_58 ?_
        refine lv_tope (nI_1 _) ?_
        refine lv_aload_n hx hb dX0_moveData_59 rfl (lv_at hl 1 rfl) ?_
        refine va_get (D := (dC, dI)) (ci := 0) (v := .ref (b 7)) (C := RX0) (T := TX0) (N := 17) hx hb hts in_X0 hown hK hP 0 rfl rfl 7 (by decide) (hts _ q43) (fun _ h9 => h9) rfl dX0_moveData_60 ?_
        refine lv_iconst (v := 2) hx hb dX0_moveData_63 (by decide) ?_
        refine lv_iload_n hx hb dX0_moveData_64 rfl (lv_at hl 3 rfl) ?_
        refine lv_imul hx hb dX0_moveData_65 ?_
        refine lv_tope (e2m _) ?_
        refine lv_iconst (v := 1) hx hb dX0_moveData_66 (by decide) ?_
        refine lv_iadd hx hb dX0_moveData_67 ?_
        refine lv_tope (nI_1 _) ?_
        refine xa_bald (D := (dC, dI)) (f := σ.2 7) hx hb hK hP 5 4 rfl rfl (2 * i + 1) rfl (by omega) (by decide) dX0_moveData_68 ?_
        refine xa_bast (D := (dC, dI)) (f := (setA (setA σ 0 j (σ.2 6 i)) 1 (2 * j) (σ.2 7 (2 * i))).2 1) hx hb hK hP hD hS 2 1 rfl rfl (2 * j + 1) rfl (by omega) (by decide) (okv_byte (hi0.2.2.1 _)) dX0_moveData_69 (fun H locs hP hD hS => ?_)
        have hP : va_P (dC, dI) vwCl (wX h0 b cA (setA (setA (setA σ 0 j (σ.2 6 i)) 1 (2 * j) (σ.2 7 (2 * i))) 1 (2 * j + 1) (σ.2 7 (2 * i + 1)))) H := hP
        have hD : va_D A (wX h0 b cA (setA (setA (setA σ 0 j (σ.2 6 i)) 1 (2 * j) (σ.2 7 (2 * i))) 1 (2 * j + 1) (σ.2 7 (2 * i + 1)))) := hD
        refine lv_iinc (v := nI (i + 1)) (lv' := [(2, .int (nI (i + 1))), (3, .int (nI j)), (0, .ref h0), (1, .int p1)]) hx hb dX0_moveData_70 hl (k := 3) rfl (nI_1 _) (by decide) rfl (fun ls hl => ?_)
        refine lv_goto (tgt := 2) hx hb dX0_moveData_73 (by decide) ?_
        rw [show mvL p1 (n + 1) i σ = mvL p1 n (i + 1) (setA (setA (setA σ 0 j (σ.2 6 i)) 1 (2 * j) (σ.2 7 (2 * i))) 1 (2 * j + 1) (σ.2 7 (2 * i + 1))) from by simp only [mvL, if_neg c_7, if_neg c_12, mv1, ej, hjc]] at hk
        exact ih (i + 1)  (setA (setA (setA σ 0 j (σ.2 6 i)) 1 (2 * j) (σ.2 7 (2 * i))) 1 (2 * j + 1) (σ.2 7 (2 * i + 1))) (by omega) (okX_mv1 i hj hi0) _ _ hP hD hS ls (lv_sub hl [2, 3, 0] rfl) hk

set_option maxHeartbeats 4000000 in
theorem metX0_moveData (l : Launch) (dC : Nat → ClassId) (dI : Nat → Nat → Nat) (h0 : Nat) (b : Nat → Nat) (cA : Nat → ClassId) (sz : Nat) (σ : XS) (p1 : Int32) (hok : okX σ) : MetV l yX0_moveData (ws_ yX0_moveData cX0_moveData 4 none) ({ frames := 0, cells := 0, slots := 0, locals := 0 }) (dC, dI) (tX cA) (wX h0 b cA) h0 [.int p1] sz σ (x_move σ p1) := by
  refine Met.ofW (cc := cX0_moveData) (maxL := 4) (ret := none) (by decide) rfl ?_
  intro p e s m args below meth c s₁ B hml hv
  obtain ⟨rfl, hsz, hP, hK, hD0⟩ := hv
  have hx := B.exec
  have hb := B.bytes
  have hr := B.returns
  have hts := atoms_spec (ws := (ws_ yX0_moveData cX0_moveData 4 none)) B.pre
  have hts : ∀ w ∈ lw_all, w.before _ s = true := fun w h => hts w (List.mem_cons_of_mem _ h)
  have hown : s.vm.findClass RX0 = some m.cls := findClass_of_methodNamed B.named
  have hlocks := B.notSynchronized
  subst hsz
  have hD := hD0.self (sz := s.heap.size)
  generalize hAe : va_A (wX h0 b cA σ) s.heap.size = A at hD ⊢
  have hA : ∀ q : Nat, s.heap.size ≤ q → A q := fun q h => by rw [← hAe]; exact Or.inr h
  have hS : va_S A s.heap s.heap [] := va_S.rf
  have hl := lv_entry ([.ref h0, .int p1]) (n := 4) (Nat.le_of_ble_eq_true rfl)
  rw [lg_entry_eq]
  generalize (lg_sl ([.ref h0, .int p1]) ++ List.replicate (4 - (lg_sl ([.ref h0, .int p1])).length) Slot.unset).toArray = ls at hl ⊢
  have hl : lv_has ls 4 [(0, .ref h0), (1, .int p1)] := hl
  refine lv_iconst (v := 0) hx hb dX0_moveData_0 (by decide) ?_
  refine lv_istore_n (lv' := [(2, .int 0), (0, .ref h0), (1, .int p1)]) hx hb dX0_moveData_1 rfl hl (by decide) rfl (fun ls hl => ?_)
  refine lpX0_moveData_2 hx hb hml hown hts hA hK p1 12 0  σ rfl hok _ _ hP hD hS ls (lv_sub hl [1, 2, 0] rfl) (fun H locs hP hD hS ls hl => ?_)
  refine lv_iload_n hx hb dX0_moveData_76 rfl (lv_at hl 1 rfl) ?_
  refine lv_aload_n hx hb dX0_moveData_77 rfl (lv_at hl 0 rfl) ?_
  refine va_get (D := (dC, dI)) (ci := 0) (v := .int ((mvL p1 12 0 σ).1 4)) (C := RX0) (T := TX0) (N := 17) hx hb hts in_X0 hown hK hP 0 rfl rfl 4 (by decide) (hts _ q40) (fun _ h9 => h9) rfl dX0_moveData_78 ?_
  refine lv_icmp_ge (tgt := 85) hx hb dX0_moveData_81 (by decide) (fun c_81 => ?_) (fun c_81 => ?_)
  · refine lv_aload_n hx hb dX0_moveData_85 rfl (lv_at hl 0 rfl) ?_
    refine lv_aload_n hx hb dX0_moveData_86 rfl (lv_at hl 0 rfl) ?_
    refine va_get (D := (dC, dI)) (ci := 0) (v := .int ((mvL p1 12 0 σ).1 9)) (C := RX0) (T := TX0) (N := 17) hx hb hts in_X0 hown hK hP 0 rfl rfl 9 (by decide) (hts _ q45) (fun _ h9 => h9) rfl dX0_moveData_87 ?_
    refine va_put (D := (dC, dI)) (ci := 0) (v := .int ((mvL p1 12 0 σ).1 9)) (ty := .int) (C := RX0) (T := TX0) (N := 17) hx hb hts in_X0 tyX0 tyX0_ok nmX0 hown hK hP hD hS 0 rfl rfl 2 (by decide) (hts _ q38) (fun _ h9 => h9) rfl (by decide +kernel) rfl rfl (Nat.le_of_ble_eq_true rfl) dX0_moveData_90 (fun H locs hP hD hS => ?_)
    have hP : va_P (dC, dI) vwCl (wX h0 b cA (setF (mvL p1 12 0 σ) 2 ((mvL p1 12 0 σ).1 9))) H := hP
    have hD : va_D A (wX h0 b cA (setF (mvL p1 12 0 σ) 2 ((mvL p1 12 0 σ).1 9))) := hD
    refine lv_aload_n hx hb dX0_moveData_93 rfl (lv_at hl 0 rfl) ?_
    refine lv_aload_n hx hb dX0_moveData_94 rfl (lv_at hl 0 rfl) ?_
    refine va_get (D := (dC, dI)) (ci := 0) (v := .int ((mvL p1 12 0 σ).1 10)) (C := RX0) (T := TX0) (N := 17) hx hb hts in_X0 hown hK hP 0 rfl rfl 10 (by decide) (hts _ q46) (fun _ h9 => h9) rfl dX0_moveData_95 ?_
    refine va_put (D := (dC, dI)) (ci := 0) (v := .int ((mvL p1 12 0 σ).1 10)) (ty := .int) (C := RX0) (T := TX0) (N := 17) hx hb hts in_X0 tyX0 tyX0_ok nmX0 hown hK hP hD hS 0 rfl rfl 3 (by decide) (hts _ q39) (fun _ h9 => h9) rfl (by decide +kernel) rfl rfl (Nat.le_of_ble_eq_true rfl) dX0_moveData_98 (fun H locs hP hD hS => ?_)
    have hP : va_P (dC, dI) vwCl (wX h0 b cA (setF (setF (mvL p1 12 0 σ) 2 ((mvL p1 12 0 σ).1 9)) 3 ((mvL p1 12 0 σ).1 10))) H := hP
    have hD : va_D A (wX h0 b cA (setF (setF (mvL p1 12 0 σ) 2 ((mvL p1 12 0 σ).1 9)) 3 ((mvL p1 12 0 σ).1 10))) := hD
    have hqs : setF (setF (mvL p1 12 0 σ) 2 ((mvL p1 12 0 σ).1 9)) 3 ((mvL p1 12 0 σ).1 10) = x_move σ p1 := by simp only [x_move, mvE, if_pos c_81]
    exact W.vret hx hb hr (fun t ht hW => ⟨⟨(setF (setF (mvL p1 12 0 σ) 2 ((mvL p1 12 0 σ).1 9)) 3 ((mvL p1 12 0 σ).1 10)), rfl, hqs, by rw [ht]; exact hP, va_K.moved hW.alike hK, hD⟩, hS.F ht⟩) hS.2.2 dX0_moveData_101
  · have hqs : (mvL p1 12 0 σ) = x_move σ p1 := by simp only [x_move, mvE, if_neg c_81]
    exact W.vret hx hb hr (fun t ht hW => ⟨⟨(mvL p1 12 0 σ), rfl, hqs, by rw [ht]; exact hP, va_K.moved hW.alike hK, hD⟩, hS.F ht⟩) hS.2.2 dX0_moveData_84

set_option maxHeartbeats 4000000 in
theorem lpX0_restartProgram_23 {p : Program} {l : Launch} {e : Env} {s : State} {m : MethodId} {below : List Frame} {meth : Method} {c : Code} {args : Array Value} {Q : State → Prop} {dC : Nat → ClassId} {dI : Nat → Nat → Nat} {A : Nat → Prop} {h0 : Nat} {b : Nat → Nat} {cA : Nat → ClassId} (hx : p.tables.exec = Jvm.exec) (hb : c.code = cX0_restartProgram) (hml : c.maxLocals = 2) (hown : s.vm.findClass RX0 = some m.cls) (hts : ∀ w ∈ lw_all, w.before args s = true) (hA : ∀ q : Nat, s.heap.size ≤ q → A q) (hK : va_K (dC, dI) vwCl (tX cA) s) :
    ∀ (n i : Nat) (σ : XS), i + n = 4 → ∀ (H : Heap) (locs : List Loc), va_P (dC, dI) vwCl (wX h0 b cA σ) H → va_D A (wX h0 b cA σ) → va_S A s.heap H locs → ∀ (ls : Array Slot), lv_has ls 2 [(0, .ref h0), (1, .int (nI i))] →
    (∀ (H : Heap) (locs : List Loc), va_P (dC, dI) vwCl (wX h0 b cA (rsL 16 n i σ)) H → va_D A (wX h0 b cA (rsL 16 n i σ)) → va_S A s.heap H locs → ∀ (ls : Array Slot), lv_has ls 2 [] → W p l e (headSpec (ws_ yX0_restartProgram cX0_restartProgram 2 none) ({ frames := 0, cells := 0, slots := 0, locals := 0 })).room s m args below meth c H locs 0 0 Q (F0 m 41 ls [])) → W p l e (headSpec (ws_ yX0_restartProgram cX0_restartProgram 2 none) ({ frames := 0, cells := 0, slots := 0, locals := 0 })).room s m args below meth c H locs 0 0 Q (F0 m 23 ls []) := by
  intro n
  induction n with
  | zero =>
    intro i σ hin H locs hP hD hS ls hl hk
    obtain rfl : i = 4 := by omega
    refine lv_iload_n hx hb dX0_restartProgram_23 rfl (lv_at hl 1 rfl) ?_
    refine lv_iconst (v := 4) hx hb dX0_restartProgram_24 (by decide) ?_
    refine lv_icmp_ge (tgt := 41) hx hb dX0_restartProgram_25 (by decide) (fun c_25 => ?_) (fun c_25 => ?_)
    · exact hk _ _ hP hD hS ls (lv_sub hl [] rfl)
    · exact absurd (by decide +kernel) c_25
  | succ n ih =>
    intro i σ hin H locs hP hD hS ls hl hk
    have hi : i < 4 := by omega
    refine lv_iload_n hx hb dX0_restartProgram_23 rfl (lv_at hl 1 rfl) ?_
    refine lv_iconst (v := 4) hx hb dX0_restartProgram_24 (by decide) ?_
    refine lv_icmp_ge (tgt := 41) hx hb dX0_restartProgram_25 (by decide) (fun c_25 => ?_) (fun c_25 => ?_)
    · exact absurd c_25 (nI_ge (b := 4) (by omega) (by decide))
    · refine lv_aload_n hx hb dX0_restartProgram_28 rfl (lv_at hl 0 rfl) ?_
      refine va_get (D := (dC, dI)) (ci := 0) (v := .ref (b 16)) (C := RX0) (T := TX0) (N := 17) hx hb hts in_X0 hown hK hP 0 rfl rfl 16 (by decide) (hts _ q52) (fun _ h9 => h9) rfl dX0_restartProgram_29 ?_
      refine lv_iload_n hx hb dX0_restartProgram_32 rfl (lv_at hl 1 rfl) ?_
      refine lv_iconst (v := (-1)) hx hb dX0_restartProgram_33 (by decide) ?_
      refine xa_bast (D := (dC, dI)) (f := σ.2 16) hx hb hK hP hD hS 8 7 rfl rfl i rfl (by omega) (by decide) (by decide +kernel) dX0_restartProgram_34 (fun H locs hP hD hS => ?_)
      have hP : va_P (dC, dI) vwCl (wX h0 b cA (setA σ 16 i (-1))) H := hP
      have hD : va_D A (wX h0 b cA (setA σ 16 i (-1))) := hD
      refine lv_iinc (v := nI (i + 1)) (lv' := [(1, .int (nI (i + 1))), (0, .ref h0)]) hx hb dX0_restartProgram_35 hl (k := 1) rfl (nI_1 _) (by decide) rfl (fun ls hl => ?_)
      refine lv_goto (tgt := 23) hx hb dX0_restartProgram_38 (by decide) ?_
      rw [show rsL 16 (n + 1) i σ = rsL 16 n (i + 1) (setA σ 16 i (-1)) from by simp only [rsL, if_neg c_25]] at hk
      exact ih (i + 1)  (setA σ 16 i (-1)) (by omega)  _ _ hP hD hS ls (lv_sub hl [1, 0] rfl) hk

set_option maxHeartbeats 4000000 in
theorem metX0_restartProgram (l : Launch) (dC : Nat → ClassId) (dI : Nat → Nat → Nat) (h0 : Nat) (b : Nat → Nat) (cA : Nat → ClassId) (sz : Nat) (σ : XS) : MetV l yX0_restartProgram (ws_ yX0_restartProgram cX0_restartProgram 2 none) ({ frames := 0, cells := 0, slots := 0, locals := 0 }) (dC, dI) (tX cA) (wX h0 b cA) h0 [] sz σ (x_restart σ) := by
  refine Met.ofW (cc := cX0_restartProgram) (maxL := 2) (ret := none) (by decide) rfl ?_
  intro p e s m args below meth c s₁ B hml hv
  obtain ⟨rfl, hsz, hP, hK, hD0⟩ := hv
  have hx := B.exec
  have hb := B.bytes
  have hr := B.returns
  have hts := atoms_spec (ws := (ws_ yX0_restartProgram cX0_restartProgram 2 none)) B.pre
  have hts : ∀ w ∈ lw_all, w.before _ s = true := fun w h => hts w (List.mem_cons_of_mem _ h)
  have hown : s.vm.findClass RX0 = some m.cls := findClass_of_methodNamed B.named
  have hlocks := B.notSynchronized
  subst hsz
  have hD := hD0.self (sz := s.heap.size)
  generalize hAe : va_A (wX h0 b cA σ) s.heap.size = A at hD ⊢
  have hA : ∀ q : Nat, s.heap.size ≤ q → A q := fun q h => by rw [← hAe]; exact Or.inr h
  have hS : va_S A s.heap s.heap [] := va_S.rf
  have hl := lv_entry ([.ref h0]) (n := 2) (Nat.le_of_ble_eq_true rfl)
  rw [lg_entry_eq]
  generalize (lg_sl ([.ref h0]) ++ List.replicate (2 - (lg_sl ([.ref h0])).length) Slot.unset).toArray = ls at hl ⊢
  have hl : lv_has ls 2 [(0, .ref h0)] := hl
  refine lv_aload_n hx hb dX0_restartProgram_0 rfl (lv_at hl 0 rfl) ?_
  refine lv_iconst (v := 0) hx hb dX0_restartProgram_1 (by decide) ?_
  refine va_put (D := (dC, dI)) (ci := 0) (v := .int 0) (ty := .int) (C := RX0) (T := TX0) (N := 17) hx hb hts in_X0 tyX0 tyX0_ok nmX0 hown hK hP hD hS 0 rfl rfl 11 (by decide) (hts _ q47) (fun _ h9 => h9) rfl (by decide +kernel) rfl rfl (Nat.le_of_ble_eq_true rfl) dX0_restartProgram_2 (fun H locs hP hD hS => ?_)
  have hP : va_P (dC, dI) vwCl (wX h0 b cA (setF σ 11 0)) H := hP
  have hD : va_D A (wX h0 b cA (setF σ 11 0)) := hD
  refine lv_aload_n hx hb dX0_restartProgram_5 rfl (lv_at hl 0 rfl) ?_
  refine lv_aload_n hx hb dX0_restartProgram_6 rfl (lv_at hl 0 rfl) ?_
  refine va_get (D := (dC, dI)) (ci := 0) (v := .int (σ.1 3)) (C := RX0) (T := TX0) (N := 17) hx hb hts in_X0 hown hK hP 0 rfl rfl 3 (by decide) (hts _ q39) (fun _ h9 => h9) rfl dX0_restartProgram_7 ?_
  refine va_put (D := (dC, dI)) (ci := 0) (v := .int (σ.1 3)) (ty := .int) (C := RX0) (T := TX0) (N := 17) hx hb hts in_X0 tyX0 tyX0_ok nmX0 hown hK hP hD hS 0 rfl rfl 14 (by decide) (hts _ q50) (fun _ h9 => h9) rfl (by decide +kernel) rfl rfl (Nat.le_of_ble_eq_true rfl) dX0_restartProgram_10 (fun H locs hP hD hS => ?_)
  have hP : va_P (dC, dI) vwCl (wX h0 b cA (setF (setF σ 11 0) 14 (σ.1 3))) H := hP
  have hD : va_D A (wX h0 b cA (setF (setF σ 11 0) 14 (σ.1 3))) := hD
  refine lv_aload_n hx hb dX0_restartProgram_13 rfl (lv_at hl 0 rfl) ?_
  refine lv_aload_n hx hb dX0_restartProgram_14 rfl (lv_at hl 0 rfl) ?_
  refine va_get (D := (dC, dI)) (ci := 0) (v := .int (σ.1 2)) (C := RX0) (T := TX0) (N := 17) hx hb hts in_X0 hown hK hP 0 rfl rfl 2 (by decide) (hts _ q38) (fun _ h9 => h9) rfl dX0_restartProgram_15 ?_
  refine va_put (D := (dC, dI)) (ci := 0) (v := .int (σ.1 2)) (ty := .int) (C := RX0) (T := TX0) (N := 17) hx hb hts in_X0 tyX0 tyX0_ok nmX0 hown hK hP hD hS 0 rfl rfl 15 (by decide) (hts _ q51) (fun _ h9 => h9) rfl (by decide +kernel) rfl rfl (Nat.le_of_ble_eq_true rfl) dX0_restartProgram_18 (fun H locs hP hD hS => ?_)
  have hP : va_P (dC, dI) vwCl (wX h0 b cA (setF (setF (setF σ 11 0) 14 (σ.1 3)) 15 (σ.1 2))) H := hP
  have hD : va_D A (wX h0 b cA (setF (setF (setF σ 11 0) 14 (σ.1 3)) 15 (σ.1 2))) := hD
  refine lv_iconst (v := 0) hx hb dX0_restartProgram_21 (by decide) ?_
  refine lv_istore_n (lv' := [(1, .int 0), (0, .ref h0)]) hx hb dX0_restartProgram_22 rfl hl (by decide) rfl (fun ls hl => ?_)
  refine lpX0_restartProgram_23 hx hb hml hown hts hA hK  4 0  (setF (setF (setF σ 11 0) 14 (σ.1 3)) 15 (σ.1 2)) rfl  _ _ hP hD hS ls (lv_sub hl [1, 0] rfl) (fun H locs hP hD hS ls hl => ?_)
  have hqs : (rsL 16 4 0 (setF (setF (setF σ 11 0) 14 (σ.1 3)) 15 (σ.1 2))) = x_restart σ := by simp only [x_restart]
  exact W.vret hx hb hr (fun t ht hW => ⟨⟨(rsL 16 4 0 (setF (setF (setF σ 11 0) 14 (σ.1 3)) 15 (σ.1 2))), rfl, hqs, by rw [ht]; exact hP, va_K.moved hW.alike hK, hD⟩, hS.F ht⟩) hS.2.2 dX0_restartProgram_41

set_option maxHeartbeats 4000000 in
theorem metX0_recover (l : Launch) (dC : Nat → ClassId) (dI : Nat → Nat → Nat) (h0 : Nat) (b : Nat → Nat) (cA : Nat → ClassId) (sz : Nat) (σ : XS) (hok : okX σ) : MetV l yX0_recover (ws_ yX0_recover cX0_recover 1 none) ({ frames := 1, cells := 0, slots := 0, locals := 23 }) (dC, dI) (tX cA) (wX h0 b cA) h0 [] sz σ (x_recover σ) := by
  refine Met.ofW (cc := cX0_recover) (maxL := 1) (ret := none) (by decide) rfl ?_
  intro p e s m args below meth c s₁ B hml hv
  obtain ⟨rfl, hsz, hP, hK, hD0⟩ := hv
  have hx := B.exec
  have hb := B.bytes
  have hr := B.returns
  have hts := atoms_spec (ws := (ws_ yX0_recover cX0_recover 1 none)) B.pre
  have hts : ∀ w ∈ lw_all, w.before _ s = true := fun w h => hts w (List.mem_cons_of_mem _ h)
  have hown : s.vm.findClass RX0 = some m.cls := findClass_of_methodNamed B.named
  have hlocks := B.notSynchronized
  subst hsz
  have hD := hD0.self (sz := s.heap.size)
  generalize hAe : va_A (wX h0 b cA σ) s.heap.size = A at hD ⊢
  have hA : ∀ q : Nat, s.heap.size ≤ q → A q := fun q h => by rw [← hAe]; exact Or.inr h
  have hS : va_S A s.heap s.heap [] := va_S.rf
  have hl := lv_entry ([.ref h0]) (n := 1) (Nat.le_of_ble_eq_true rfl)
  rw [lg_entry_eq]
  generalize (lg_sl ([.ref h0]) ++ List.replicate (1 - (lg_sl ([.ref h0])).length) Slot.unset).toArray = ls at hl ⊢
  have hl : lv_has ls 1 [(0, .ref h0)] := hl
  refine lv_aload_n hx hb dX0_recover_0 rfl (lv_at hl 0 rfl) ?_
  refine va_get (D := (dC, dI)) (ci := 0) (v := .int (σ.1 8)) (C := RX0) (T := TX0) (N := 17) hx hb hts in_X0 hown hK hP 0 rfl rfl 8 (by decide) (hts _ q44) (fun _ h9 => h9) rfl dX0_recover_1 ?_
  refine lv_if_eq (tgt := 13) hx hb dX0_recover_4 (by decide) (fun c_4 => ?_) (fun c_4 => ?_)
  · refine lv_aload_n hx hb dX0_recover_13 rfl (lv_at hl 0 rfl) ?_
    refine lv_iconst (v := 0) hx hb dX0_recover_14 (by decide) ?_
    refine va_put (D := (dC, dI)) (ci := 0) (v := .int 0) (ty := .int) (C := RX0) (T := TX0) (N := 17) hx hb hts in_X0 tyX0 tyX0_ok nmX0 hown hK hP hD hS 0 rfl rfl 4 (by decide) (hts _ q40) (fun _ h9 => h9) rfl (by decide +kernel) rfl rfl (Nat.le_of_ble_eq_true rfl) dX0_recover_15 (fun H locs hP hD hS => ?_)
    have hP : va_P (dC, dI) vwCl (wX h0 b cA (setF σ 4 0)) H := hP
    have hD : va_D A (wX h0 b cA (setF σ 4 0)) := hD
    refine lv_aload_n hx hb dX0_recover_18 rfl (lv_at hl 0 rfl) ?_
    refine lv_iconst (v := 0) hx hb dX0_recover_19 (by decide) ?_
    refine va_put (D := (dC, dI)) (ci := 0) (v := .int 0) (ty := .boolean) (C := RX0) (T := TX0) (N := 17) hx hb hts in_X0 tyX0 tyX0_ok nmX0 hown hK hP hD hS 0 rfl rfl 8 (by decide) (hts _ q44) (fun _ h9 => h9) rfl (by decide +kernel) rfl rfl (Nat.le_of_ble_eq_true rfl) dX0_recover_20 (fun H locs hP hD hS => ?_)
    have hP : va_P (dC, dI) vwCl (wX h0 b cA (setF (setF σ 4 0) 8 0)) H := hP
    have hD : va_D A (wX h0 b cA (setF (setF σ 4 0) 8 0)) := hD
    refine lv_aload_n hx hb dX0_recover_23 rfl (lv_at hl 0 rfl) ?_
    refine ca_v (D := (dC, dI)) (wf := wX h0 b cA) hx hb hml hown hts (metX0_restartProgram l dC dI h0 b cA _ (setF (setF σ 4 0) 8 0) ) (cwV 0 hts (lw_V q182 q184 qs12 q26 q185) rfl rfl rfl (by decide +kernel) ⟨Nat.le_of_ble_eq_true rfl, Nat.le_of_ble_eq_true rfl⟩) hK hP hD hS hA 0 0 rfl rfl rfl hl.1 rfl (lv_room (Nat.le_of_ble_eq_true rfl)) dX0_recover_24 ⟨Nat.le_of_ble_eq_true rfl, Nat.le_of_ble_eq_true rfl⟩ (fun H locs hP hD hS => ?_)
    obtain ⟨τ1, eτ1⟩ : ∃ z : XS, z = x_restart (setF (setF σ 4 0) 8 0) := ⟨_, rfl⟩
    rw [← eτ1] at hP hD
    have hqs : τ1 = x_recover σ := by simp only [x_recover, if_pos c_4, ← eτ1]
    exact W.vret hx hb hr (fun t ht hW => ⟨⟨τ1, rfl, hqs, by rw [ht]; exact hP, va_K.moved hW.alike hK, hD⟩, hS.F ht⟩) hS.2.2 dX0_recover_27
  · refine lv_aload_n hx hb dX0_recover_7 rfl (lv_at hl 0 rfl) ?_
    refine lv_bipush (v := 12) hx hb dX0_recover_8 (by decide) ?_
    refine ca_v (D := (dC, dI)) (wf := wX h0 b cA) hx hb hml hown hts (metX0_moveData l dC dI h0 b cA _ σ 12 hok) (cwV 1 hts (lw_V q174 q176 qs11 q26 q177) rfl rfl rfl (by decide +kernel) ⟨Nat.le_of_ble_eq_true rfl, Nat.le_of_ble_eq_true rfl⟩) hK hP hD hS hA 0 0 rfl rfl rfl hl.1 rfl (lv_room (Nat.le_of_ble_eq_true rfl)) dX0_recover_10 ⟨Nat.le_of_ble_eq_true rfl, Nat.le_of_ble_eq_true rfl⟩ (fun H locs hP hD hS => ?_)
    obtain ⟨τ1, eτ1⟩ : ∃ z : XS, z = x_move σ 12 := ⟨_, rfl⟩
    rw [← eτ1] at hP hD
    have okτ1 : okX τ1 := by rw [eτ1]; exact okX_move _ hok
    refine lv_aload_n hx hb dX0_recover_13 rfl (lv_at hl 0 rfl) ?_
    refine lv_iconst (v := 0) hx hb dX0_recover_14 (by decide) ?_
    refine va_put (D := (dC, dI)) (ci := 0) (v := .int 0) (ty := .int) (C := RX0) (T := TX0) (N := 17) hx hb hts in_X0 tyX0 tyX0_ok nmX0 hown hK hP hD hS 0 rfl rfl 4 (by decide) (hts _ q40) (fun _ h9 => h9) rfl (by decide +kernel) rfl rfl (Nat.le_of_ble_eq_true rfl) dX0_recover_15 (fun H locs hP hD hS => ?_)
    have hP : va_P (dC, dI) vwCl (wX h0 b cA (setF τ1 4 0)) H := hP
    have hD : va_D A (wX h0 b cA (setF τ1 4 0)) := hD
    refine lv_aload_n hx hb dX0_recover_18 rfl (lv_at hl 0 rfl) ?_
    refine lv_iconst (v := 0) hx hb dX0_recover_19 (by decide) ?_
    refine va_put (D := (dC, dI)) (ci := 0) (v := .int 0) (ty := .boolean) (C := RX0) (T := TX0) (N := 17) hx hb hts in_X0 tyX0 tyX0_ok nmX0 hown hK hP hD hS 0 rfl rfl 8 (by decide) (hts _ q44) (fun _ h9 => h9) rfl (by decide +kernel) rfl rfl (Nat.le_of_ble_eq_true rfl) dX0_recover_20 (fun H locs hP hD hS => ?_)
    have hP : va_P (dC, dI) vwCl (wX h0 b cA (setF (setF τ1 4 0) 8 0)) H := hP
    have hD : va_D A (wX h0 b cA (setF (setF τ1 4 0) 8 0)) := hD
    refine lv_aload_n hx hb dX0_recover_23 rfl (lv_at hl 0 rfl) ?_
    refine ca_v (D := (dC, dI)) (wf := wX h0 b cA) hx hb hml hown hts (metX0_restartProgram l dC dI h0 b cA _ (setF (setF τ1 4 0) 8 0) ) (cwV 0 hts (lw_V q182 q184 qs12 q26 q185) rfl rfl rfl (by decide +kernel) ⟨Nat.le_of_ble_eq_true rfl, Nat.le_of_ble_eq_true rfl⟩) hK hP hD hS hA 0 0 rfl rfl rfl hl.1 rfl (lv_room (Nat.le_of_ble_eq_true rfl)) dX0_recover_24 ⟨Nat.le_of_ble_eq_true rfl, Nat.le_of_ble_eq_true rfl⟩ (fun H locs hP hD hS => ?_)
    obtain ⟨τ2, eτ2⟩ : ∃ z : XS, z = x_restart (setF (setF τ1 4 0) 8 0) := ⟨_, rfl⟩
    rw [← eτ2] at hP hD
    have hqs : τ2 = x_recover σ := by simp only [x_recover, if_neg c_4, ← eτ1, ← eτ2]
    exact W.vret hx hb hr (fun t ht hW => ⟨⟨τ2, rfl, hqs, by rw [ht]; exact hP, va_K.moved hW.alike hK, hD⟩, hS.F ht⟩) hS.2.2 dX0_recover_27

set_option maxHeartbeats 4000000 in
theorem metX0_commit (l : Launch) (dC : Nat → ClassId) (dI : Nat → Nat → Nat) (h0 : Nat) (b : Nat → Nat) (cA : Nat → ClassId) (sz : Nat) (σ : XS) (hok : okX σ) : MetI l yX0_commit (ws_ yX0_commit cX0_commit 2 (some .int)) ({ frames := 3, cells := 0, slots := 0, locals := 72 }) (dC, dI) (tX cA) (wX h0 b cA) h0 [] sz σ ((x_commit σ).1) ((x_commit σ).2) := by
  refine Met.ofW (cc := cX0_commit) (maxL := 2) (ret := (some .int)) (by decide) rfl ?_
  intro p e s m args below meth c s₁ B hml hv
  obtain ⟨rfl, hsz, hP, hK, hD0⟩ := hv
  have hx := B.exec
  have hb := B.bytes
  have hr := B.returns
  have hts := atoms_spec (ws := (ws_ yX0_commit cX0_commit 2 (some .int))) B.pre
  have hts : ∀ w ∈ lw_all, w.before _ s = true := fun w h => hts w (List.mem_cons_of_mem _ h)
  have hown : s.vm.findClass RX0 = some m.cls := findClass_of_methodNamed B.named
  have hlocks := B.notSynchronized
  subst hsz
  have hD := hD0.self (sz := s.heap.size)
  generalize hAe : va_A (wX h0 b cA σ) s.heap.size = A at hD ⊢
  have hA : ∀ q : Nat, s.heap.size ≤ q → A q := fun q h => by rw [← hAe]; exact Or.inr h
  have hS : va_S A s.heap s.heap [] := va_S.rf
  have hl := lv_entry ([.ref h0]) (n := 2) (Nat.le_of_ble_eq_true rfl)
  rw [lg_entry_eq]
  generalize (lg_sl ([.ref h0]) ++ List.replicate (2 - (lg_sl ([.ref h0])).length) Slot.unset).toArray = ls at hl ⊢
  have hl : lv_has ls 2 [(0, .ref h0)] := hl
  refine lv_aload_n hx hb dX0_commit_0 rfl (lv_at hl 0 rfl) ?_
  refine ca_i (D := (dC, dI)) (wf := wX h0 b cA) hx hb hml hown hts (metX0_changedPlaces l dC dI h0 b cA _ σ ) (cwV 0 hts (lw_V q158 q160 qs7 q26 q161) rfl rfl rfl (by decide +kernel) ⟨Nat.le_of_ble_eq_true rfl, Nat.le_of_ble_eq_true rfl⟩) hK hP hD hS hA 0 0 rfl rfl rfl hl.1 rfl (lv_room (Nat.le_of_ble_eq_true rfl)) dX0_commit_1 ⟨Nat.le_of_ble_eq_true rfl, Nat.le_of_ble_eq_true rfl⟩ (fun H locs hP hD hS => ?_)
  refine lv_istore_n (lv' := [(1, .int (x_chg σ)), (0, .ref h0)]) hx hb dX0_commit_4 rfl hl (by decide) rfl (fun ls hl => ?_)
  refine lv_aload_n hx hb dX0_commit_5 rfl (lv_at hl 1 rfl) ?_
  refine lv_iload_n hx hb dX0_commit_6 rfl (lv_at hl 0 rfl) ?_
  refine lv_bipush (v := 12) hx hb dX0_commit_7 (by decide) ?_
  refine ca_v (D := (dC, dI)) (wf := wX h0 b cA) hx hb hml hown hts (metX0_writeLog l dC dI h0 b cA _ σ (x_chg σ) 12 hok) (cwV 2 hts (lw_V q166 q168 qs9 q26 q169) rfl rfl rfl (by decide +kernel) ⟨Nat.le_of_ble_eq_true rfl, Nat.le_of_ble_eq_true rfl⟩) hK hP hD hS hA 0 0 rfl rfl rfl hl.1 rfl (lv_room (Nat.le_of_ble_eq_true rfl)) dX0_commit_9 ⟨Nat.le_of_ble_eq_true rfl, Nat.le_of_ble_eq_true rfl⟩ (fun H locs hP hD hS => ?_)
  obtain ⟨τ1, eτ1⟩ : ∃ z : XS, z = x_wlog σ (x_chg σ) 12 := ⟨_, rfl⟩
  rw [← eτ1] at hP hD
  have okτ1 : okX τ1 := by rw [eτ1]; exact okX_wlog _ _ hok
  refine lv_aload_n hx hb dX0_commit_12 rfl (lv_at hl 1 rfl) ?_
  refine ca_v (D := (dC, dI)) (wf := wX h0 b cA) hx hb hml hown hts (metX0_writeMark l dC dI h0 b cA _ τ1 ) (cwV 0 hts (lw_V q170 q172 qs10 q26 q173) rfl rfl rfl (by decide +kernel) ⟨Nat.le_of_ble_eq_true rfl, Nat.le_of_ble_eq_true rfl⟩) hK hP hD hS hA 0 0 rfl rfl rfl hl.1 rfl (lv_room (Nat.le_of_ble_eq_true rfl)) dX0_commit_13 ⟨Nat.le_of_ble_eq_true rfl, Nat.le_of_ble_eq_true rfl⟩ (fun H locs hP hD hS => ?_)
  obtain ⟨τ2, eτ2⟩ : ∃ z : XS, z = x_mark τ1 := ⟨_, rfl⟩
  rw [← eτ2] at hP hD
  have okτ2 : okX τ2 := by rw [eτ2]; exact okX_mark okτ1
  refine lv_aload_n hx hb dX0_commit_16 rfl (lv_at hl 1 rfl) ?_
  refine lv_bipush (v := 12) hx hb dX0_commit_17 (by decide) ?_
  refine ca_v (D := (dC, dI)) (wf := wX h0 b cA) hx hb hml hown hts (metX0_moveData l dC dI h0 b cA _ τ2 12 okτ2) (cwV 1 hts (lw_V q174 q176 qs11 q26 q177) rfl rfl rfl (by decide +kernel) ⟨Nat.le_of_ble_eq_true rfl, Nat.le_of_ble_eq_true rfl⟩) hK hP hD hS hA 0 0 rfl rfl rfl hl.1 rfl (lv_room (Nat.le_of_ble_eq_true rfl)) dX0_commit_19 ⟨Nat.le_of_ble_eq_true rfl, Nat.le_of_ble_eq_true rfl⟩ (fun H locs hP hD hS => ?_)
  obtain ⟨τ3, eτ3⟩ : ∃ z : XS, z = x_move τ2 12 := ⟨_, rfl⟩
  rw [← eτ3] at hP hD
  have okτ3 : okX τ3 := by rw [eτ3]; exact okX_move _ okτ2
  refine lv_aload_n hx hb dX0_commit_22 rfl (lv_at hl 1 rfl) ?_
  refine lv_iconst (v := 0) hx hb dX0_commit_23 (by decide) ?_
  refine va_put (D := (dC, dI)) (ci := 0) (v := .int 0) (ty := .int) (C := RX0) (T := TX0) (N := 17) hx hb hts in_X0 tyX0 tyX0_ok nmX0 hown hK hP hD hS 0 rfl rfl 4 (by decide) (hts _ q40) (fun _ h9 => h9) rfl (by decide +kernel) rfl rfl (Nat.le_of_ble_eq_true rfl) dX0_commit_24 (fun H locs hP hD hS => ?_)
  have hP : va_P (dC, dI) vwCl (wX h0 b cA (setF τ3 4 0)) H := hP
  have hD : va_D A (wX h0 b cA (setF τ3 4 0)) := hD
  refine lv_aload_n hx hb dX0_commit_27 rfl (lv_at hl 1 rfl) ?_
  refine lv_iconst (v := 0) hx hb dX0_commit_28 (by decide) ?_
  refine va_put (D := (dC, dI)) (ci := 0) (v := .int 0) (ty := .boolean) (C := RX0) (T := TX0) (N := 17) hx hb hts in_X0 tyX0 tyX0_ok nmX0 hown hK hP hD hS 0 rfl rfl 8 (by decide) (hts _ q44) (fun _ h9 => h9) rfl (by decide +kernel) rfl rfl (Nat.le_of_ble_eq_true rfl) dX0_commit_29 (fun H locs hP hD hS => ?_)
  have hP : va_P (dC, dI) vwCl (wX h0 b cA (setF (setF τ3 4 0) 8 0)) H := hP
  have hD : va_D A (wX h0 b cA (setF (setF τ3 4 0) 8 0)) := hD
  refine lv_aload_n hx hb dX0_commit_32 rfl (lv_at hl 1 rfl) ?_
  refine lv_iload_n hx hb dX0_commit_33 rfl (lv_at hl 0 rfl) ?_
  refine ca_i (D := (dC, dI)) (wf := wX h0 b cA) hx hb hml hown hts (metX0_bitsIn l dC dI h0 b cA _ (setF (setF τ3 4 0) 8 0) (x_chg σ)) (cwV 1 hts (lw_V q110 q112 qs4 q26 q113) rfl rfl rfl (by decide +kernel) ⟨Nat.le_of_ble_eq_true rfl, Nat.le_of_ble_eq_true rfl⟩) hK hP hD hS hA 0 0 rfl rfl rfl hl.1 rfl (lv_room (Nat.le_of_ble_eq_true rfl)) dX0_commit_34 ⟨Nat.le_of_ble_eq_true rfl, Nat.le_of_ble_eq_true rfl⟩ (fun H locs hP hD hS => ?_)
  have hqr : x_bits (x_chg σ) = (x_commit σ).1 := by simp only [x_commit, ← eτ1, ← eτ2, ← eτ3]
  have hqs : setF (setF τ3 4 0) 8 0 = (x_commit σ).2 := by simp only [x_commit, ← eτ1, ← eτ2, ← eτ3]
  exact W.iret (v := x_bits (x_chg σ)) hx hb hr (fun t ht hW => ⟨⟨x_bits (x_chg σ), (setF (setF τ3 4 0) 8 0), rfl, ⟨hqr, hqs⟩, by rw [ht]; exact hP, va_K.moved hW.alike hK, hD⟩, hS.F ht⟩) hS.2.2 dX0_commit_37

set_option maxHeartbeats 4000000 in
theorem metX0_abort (l : Launch) (dC : Nat → ClassId) (dI : Nat → Nat → Nat) (h0 : Nat) (b : Nat → Nat) (cA : Nat → ClassId) (sz : Nat) (σ : XS) : MetI l yX0_abort (ws_ yX0_abort cX0_abort 1 (some .int)) ({ frames := 1, cells := 0, slots := 0, locals := 23 }) (dC, dI) (tX cA) (wX h0 b cA) h0 [] sz σ ((x_abort σ).1) ((x_abort σ).2) := by
  refine Met.ofW (cc := cX0_abort) (maxL := 1) (ret := (some .int)) (by decide) rfl ?_
  intro p e s m args below meth c s₁ B hml hv
  obtain ⟨rfl, hsz, hP, hK, hD0⟩ := hv
  have hx := B.exec
  have hb := B.bytes
  have hr := B.returns
  have hts := atoms_spec (ws := (ws_ yX0_abort cX0_abort 1 (some .int))) B.pre
  have hts : ∀ w ∈ lw_all, w.before _ s = true := fun w h => hts w (List.mem_cons_of_mem _ h)
  have hown : s.vm.findClass RX0 = some m.cls := findClass_of_methodNamed B.named
  have hlocks := B.notSynchronized
  subst hsz
  have hD := hD0.self (sz := s.heap.size)
  generalize hAe : va_A (wX h0 b cA σ) s.heap.size = A at hD ⊢
  have hA : ∀ q : Nat, s.heap.size ≤ q → A q := fun q h => by rw [← hAe]; exact Or.inr h
  have hS : va_S A s.heap s.heap [] := va_S.rf
  have hl := lv_entry ([.ref h0]) (n := 1) (Nat.le_of_ble_eq_true rfl)
  rw [lg_entry_eq]
  generalize (lg_sl ([.ref h0]) ++ List.replicate (1 - (lg_sl ([.ref h0])).length) Slot.unset).toArray = ls at hl ⊢
  have hl : lv_has ls 1 [(0, .ref h0)] := hl
  refine lv_aload_n hx hb dX0_abort_0 rfl (lv_at hl 0 rfl) ?_
  refine ca_v (D := (dC, dI)) (wf := wX h0 b cA) hx hb hml hown hts (metX0_restartProgram l dC dI h0 b cA _ σ ) (cwV 0 hts (lw_V q182 q184 qs12 q26 q185) rfl rfl rfl (by decide +kernel) ⟨Nat.le_of_ble_eq_true rfl, Nat.le_of_ble_eq_true rfl⟩) hK hP hD hS hA 0 0 rfl rfl rfl hl.1 rfl (lv_room (Nat.le_of_ble_eq_true rfl)) dX0_abort_1 ⟨Nat.le_of_ble_eq_true rfl, Nat.le_of_ble_eq_true rfl⟩ (fun H locs hP hD hS => ?_)
  obtain ⟨τ1, eτ1⟩ : ∃ z : XS, z = x_restart σ := ⟨_, rfl⟩
  rw [← eτ1] at hP hD
  refine lv_aload_n hx hb dX0_abort_4 rfl (lv_at hl 0 rfl) ?_
  refine lv_aload_n hx hb dX0_abort_5 rfl (lv_at hl 0 rfl) ?_
  refine va_get (D := (dC, dI)) (ci := 0) (v := .int (τ1.1 3)) (C := RX0) (T := TX0) (N := 17) hx hb hts in_X0 hown hK hP 0 rfl rfl 3 (by decide) (hts _ q39) (fun _ h9 => h9) rfl dX0_abort_6 ?_
  refine ca_i (D := (dC, dI)) (wf := wX h0 b cA) hx hb hml hown hts (metX0_bitsIn l dC dI h0 b cA _ τ1 (τ1.1 3)) (cwV 1 hts (lw_V q110 q112 qs4 q26 q113) rfl rfl rfl (by decide +kernel) ⟨Nat.le_of_ble_eq_true rfl, Nat.le_of_ble_eq_true rfl⟩) hK hP hD hS hA 0 0 rfl rfl rfl hl.1 rfl (lv_room (Nat.le_of_ble_eq_true rfl)) dX0_abort_9 ⟨Nat.le_of_ble_eq_true rfl, Nat.le_of_ble_eq_true rfl⟩ (fun H locs hP hD hS => ?_)
  have hqr : x_bits (τ1.1 3) = (x_abort σ).1 := by simp only [x_abort, ← eτ1]
  have hqs : τ1 = (x_abort σ).2 := by simp only [x_abort, ← eτ1]
  exact W.iret (v := x_bits (τ1.1 3)) hx hb hr (fun t ht hW => ⟨⟨x_bits (τ1.1 3), τ1, rfl, ⟨hqr, hqs⟩, by rw [ht]; exact hP, va_K.moved hW.alike hK, hD⟩, hS.F ht⟩) hS.2.2 dX0_abort_12

set_option maxHeartbeats 4000000 in
theorem metX0_crash (l : Launch) (dC : Nat → ClassId) (dI : Nat → Nat → Nat) (h0 : Nat) (b : Nat → Nat) (cA : Nat → ClassId) (sz : Nat) (σ : XS) (p1 : Int32) (hok : okX σ) : MetI l yX0_crash (ws_ yX0_crash cX0_crash 6 (some .int)) ({ frames := 3, cells := 0, slots := 0, locals := 72 }) (dC, dI) (tX cA) (wX h0 b cA) h0 [.int p1] sz σ ((x_crash σ p1).1) ((x_crash σ p1).2) := by
  refine Met.ofW (cc := cX0_crash) (maxL := 6) (ret := (some .int)) (by decide) rfl ?_
  intro p e s m args below meth c s₁ B hml hv
  obtain ⟨rfl, hsz, hP, hK, hD0⟩ := hv
  have hx := B.exec
  have hb := B.bytes
  have hr := B.returns
  have hts := atoms_spec (ws := (ws_ yX0_crash cX0_crash 6 (some .int))) B.pre
  have hts : ∀ w ∈ lw_all, w.before _ s = true := fun w h => hts w (List.mem_cons_of_mem _ h)
  have hown : s.vm.findClass RX0 = some m.cls := findClass_of_methodNamed B.named
  have hlocks := B.notSynchronized
  subst hsz
  have hD := hD0.self (sz := s.heap.size)
  generalize hAe : va_A (wX h0 b cA σ) s.heap.size = A at hD ⊢
  have hA : ∀ q : Nat, s.heap.size ≤ q → A q := fun q h => by rw [← hAe]; exact Or.inr h
  have hS : va_S A s.heap s.heap [] := va_S.rf
  have hl := lv_entry ([.ref h0, .int p1]) (n := 6) (Nat.le_of_ble_eq_true rfl)
  rw [lg_entry_eq]
  generalize (lg_sl ([.ref h0, .int p1]) ++ List.replicate (6 - (lg_sl ([.ref h0, .int p1])).length) Slot.unset).toArray = ls at hl ⊢
  have hl : lv_has ls 6 [(0, .ref h0), (1, .int p1)] := hl
  refine lv_aload_n hx hb dX0_crash_0 rfl (lv_at hl 0 rfl) ?_
  refine ca_i (D := (dC, dI)) (wf := wX h0 b cA) hx hb hml hown hts (metX0_changedPlaces l dC dI h0 b cA _ σ ) (cwV 0 hts (lw_V q158 q160 qs7 q26 q161) rfl rfl rfl (by decide +kernel) ⟨Nat.le_of_ble_eq_true rfl, Nat.le_of_ble_eq_true rfl⟩) hK hP hD hS hA 0 0 rfl rfl rfl hl.1 rfl (lv_room (Nat.le_of_ble_eq_true rfl)) dX0_crash_1 ⟨Nat.le_of_ble_eq_true rfl, Nat.le_of_ble_eq_true rfl⟩ (fun H locs hP hD hS => ?_)
  refine lv_istore_n (lv' := [(2, .int (x_chg σ)), (0, .ref h0), (1, .int p1)]) hx hb dX0_crash_4 rfl hl (by decide) rfl (fun ls hl => ?_)
  refine lv_aload_n hx hb dX0_crash_5 rfl (lv_at hl 1 rfl) ?_
  refine lv_iload_n hx hb dX0_crash_6 rfl (lv_at hl 0 rfl) ?_
  refine ca_i (D := (dC, dI)) (wf := wX h0 b cA) hx hb hml hown hts (metX0_bitsIn l dC dI h0 b cA _ σ (x_chg σ)) (cwV 1 hts (lw_V q110 q112 qs4 q26 q113) rfl rfl rfl (by decide +kernel) ⟨Nat.le_of_ble_eq_true rfl, Nat.le_of_ble_eq_true rfl⟩) hK hP hD hS hA 0 0 rfl rfl rfl hl.1 rfl (lv_room (Nat.le_of_ble_eq_true rfl)) dX0_crash_7 ⟨Nat.le_of_ble_eq_true rfl, Nat.le_of_ble_eq_true rfl⟩ (fun H locs hP hD hS => ?_)
  refine lv_istore_n (lv' := [(3, .int (x_bits (x_chg σ))), (2, .int (x_chg σ)), (0, .ref h0), (1, .int p1)]) hx hb dX0_crash_10 rfl hl (by decide) rfl (fun ls hl => ?_)
  refine lv_iload_n hx hb dX0_crash_11 rfl (lv_at hl 3 rfl) ?_
  refine lv_if_ge (tgt := 19) hx hb dX0_crash_12 (by decide) (fun c_12 => ?_) (fun c_12 => ?_)
  · refine lv_iload_n hx hb dX0_crash_19 rfl (lv_at hl 3 rfl) ?_
    refine lv_istore (lv' := [(4, .int p1), (3, .int (x_bits (x_chg σ))), (2, .int (x_chg σ)), (0, .ref h0), (1, .int p1)]) hx hb dX0_crash_20 hl (by decide) rfl (fun ls hl => ?_)
    refine lv_aload_n hx hb dX0_crash_22 rfl (lv_at hl 3 rfl) ?_
    refine lv_iload_n hx hb dX0_crash_23 rfl (lv_at hl 2 rfl) ?_
    refine lv_iload hx hb dX0_crash_24 (lv_at hl 0 rfl) ?_
    refine ca_v (D := (dC, dI)) (wf := wX h0 b cA) hx hb hml hown hts (metX0_writeLog l dC dI h0 b cA _ σ (x_chg σ) p1 hok) (cwV 2 hts (lw_V q166 q168 qs9 q26 q169) rfl rfl rfl (by decide +kernel) ⟨Nat.le_of_ble_eq_true rfl, Nat.le_of_ble_eq_true rfl⟩) hK hP hD hS hA 0 0 rfl rfl rfl hl.1 rfl (lv_room (Nat.le_of_ble_eq_true rfl)) dX0_crash_26 ⟨Nat.le_of_ble_eq_true rfl, Nat.le_of_ble_eq_true rfl⟩ (fun H locs hP hD hS => ?_)
    obtain ⟨τ1, eτ1⟩ : ∃ z : XS, z = x_wlog σ (x_chg σ) p1 := ⟨_, rfl⟩
    rw [← eτ1] at hP hD
    have okτ1 : okX τ1 := by rw [eτ1]; exact okX_wlog _ _ hok
    refine lv_iload hx hb dX0_crash_29 (lv_at hl 0 rfl) ?_
    refine lv_iload_n hx hb dX0_crash_31 rfl (lv_at hl 1 rfl) ?_
    refine lv_icmp_le (tgt := 65) hx hb dX0_crash_32 (by decide) (fun c_32 => ?_) (fun c_32 => ?_)
    · refine lv_aload_n hx hb dX0_crash_65 rfl (lv_at hl 3 rfl) ?_
      refine va_get (D := (dC, dI)) (ci := 0) (v := .int (τ1.1 8)) (C := RX0) (T := TX0) (N := 17) hx hb hts in_X0 hown hK hP 0 rfl rfl 8 (by decide) (hts _ q44) (fun _ h9 => h9) rfl dX0_crash_66 ?_
      refine lv_if_eq (tgt := 76) hx hb dX0_crash_69 (by decide) (fun c_69 => ?_) (fun c_69 => ?_)
      · refine lv_iconst (v := 0) hx hb dX0_crash_76 (by decide) ?_
        refine lv_istore (lv' := [(5, .int 0), (4, .int p1), (3, .int (x_bits (x_chg σ))), (2, .int (x_chg σ)), (0, .ref h0), (1, .int p1)]) hx hb dX0_crash_77 hl (by decide) rfl (fun ls hl => ?_)
        refine lv_aload_n hx hb dX0_crash_79 rfl (lv_at hl 4 rfl) ?_
        refine ca_v (D := (dC, dI)) (wf := wX h0 b cA) hx hb hml hown hts (metX0_recover l dC dI h0 b cA _ τ1 okτ1) (cwV 0 hts (lw_V q190 q192 qs13 q26 q193) rfl rfl rfl (by decide +kernel) ⟨Nat.le_of_ble_eq_true rfl, Nat.le_of_ble_eq_true rfl⟩) hK hP hD hS hA 0 0 rfl rfl rfl hl.1 rfl (lv_room (Nat.le_of_ble_eq_true rfl)) dX0_crash_80 ⟨Nat.le_of_ble_eq_true rfl, Nat.le_of_ble_eq_true rfl⟩ (fun H locs hP hD hS => ?_)
        obtain ⟨τ2, eτ2⟩ : ∃ z : XS, z = x_recover τ1 := ⟨_, rfl⟩
        rw [← eτ2] at hP hD
        refine lv_iload hx hb dX0_crash_83 (lv_at hl 0 rfl) ?_
        have hqr : 0 = (x_crash σ p1).1 := by simp only [x_crash, x_cr1, x_cr2, x_cr3, if_pos c_12, if_pos c_32, if_pos c_69, ← eτ1, ← eτ2]
        have hqs : τ2 = (x_crash σ p1).2 := by simp only [x_crash, x_cr1, x_cr2, x_cr3, if_pos c_12, if_pos c_32, if_pos c_69, ← eτ1, ← eτ2]
        exact W.iret (v := 0) hx hb hr (fun t ht hW => ⟨⟨0, τ2, rfl, ⟨hqr, hqs⟩, by rw [ht]; exact hP, va_K.moved hW.alike hK, hD⟩, hS.F ht⟩) hS.2.2 dX0_crash_85
      · refine lv_iconst (v := 1) hx hb dX0_crash_72 (by decide) ?_
        refine lv_goto (tgt := 77) hx hb dX0_crash_73 (by decide) ?_
        refine lv_istore (lv' := [(5, .int 1), (4, .int p1), (3, .int (x_bits (x_chg σ))), (2, .int (x_chg σ)), (0, .ref h0), (1, .int p1)]) hx hb dX0_crash_77 hl (by decide) rfl (fun ls hl => ?_)
        refine lv_aload_n hx hb dX0_crash_79 rfl (lv_at hl 4 rfl) ?_
        refine ca_v (D := (dC, dI)) (wf := wX h0 b cA) hx hb hml hown hts (metX0_recover l dC dI h0 b cA _ τ1 okτ1) (cwV 0 hts (lw_V q190 q192 qs13 q26 q193) rfl rfl rfl (by decide +kernel) ⟨Nat.le_of_ble_eq_true rfl, Nat.le_of_ble_eq_true rfl⟩) hK hP hD hS hA 0 0 rfl rfl rfl hl.1 rfl (lv_room (Nat.le_of_ble_eq_true rfl)) dX0_crash_80 ⟨Nat.le_of_ble_eq_true rfl, Nat.le_of_ble_eq_true rfl⟩ (fun H locs hP hD hS => ?_)
        obtain ⟨τ2, eτ2⟩ : ∃ z : XS, z = x_recover τ1 := ⟨_, rfl⟩
        rw [← eτ2] at hP hD
        refine lv_iload hx hb dX0_crash_83 (lv_at hl 0 rfl) ?_
        have hqr : 1 = (x_crash σ p1).1 := by simp only [x_crash, x_cr1, x_cr2, x_cr3, if_pos c_12, if_pos c_32, if_neg c_69, ← eτ1, ← eτ2]
        have hqs : τ2 = (x_crash σ p1).2 := by simp only [x_crash, x_cr1, x_cr2, x_cr3, if_pos c_12, if_pos c_32, if_neg c_69, ← eτ1, ← eτ2]
        exact W.iret (v := 1) hx hb hr (fun t ht hW => ⟨⟨1, τ2, rfl, ⟨hqr, hqs⟩, by rw [ht]; exact hP, va_K.moved hW.alike hK, hD⟩, hS.F ht⟩) hS.2.2 dX0_crash_85
    · refine lv_aload_n hx hb dX0_crash_35 rfl (lv_at hl 3 rfl) ?_
      refine ca_v (D := (dC, dI)) (wf := wX h0 b cA) hx hb hml hown hts (metX0_writeMark l dC dI h0 b cA _ τ1 ) (cwV 0 hts (lw_V q170 q172 qs10 q26 q173) rfl rfl rfl (by decide +kernel) ⟨Nat.le_of_ble_eq_true rfl, Nat.le_of_ble_eq_true rfl⟩) hK hP hD hS hA 0 0 rfl rfl rfl hl.1 rfl (lv_room (Nat.le_of_ble_eq_true rfl)) dX0_crash_36 ⟨Nat.le_of_ble_eq_true rfl, Nat.le_of_ble_eq_true rfl⟩ (fun H locs hP hD hS => ?_)
      obtain ⟨τ2, eτ2⟩ : ∃ z : XS, z = x_mark τ1 := ⟨_, rfl⟩
      rw [← eτ2] at hP hD
      have okτ2 : okX τ2 := by rw [eτ2]; exact okX_mark okτ1
      refine lv_iload hx hb dX0_crash_39 (lv_at hl 0 rfl) ?_
      refine lv_iload_n hx hb dX0_crash_41 rfl (lv_at hl 1 rfl) ?_
      refine lv_isub hx hb dX0_crash_42 ?_
      refine lv_iconst (v := 1) hx hb dX0_crash_43 (by decide) ?_
      refine lv_isub hx hb dX0_crash_44 ?_
      refine lv_istore (lv' := [(5, .int ((p1 - (x_bits (x_chg σ))) - 1)), (4, .int p1), (3, .int (x_bits (x_chg σ))), (2, .int (x_chg σ)), (0, .ref h0), (1, .int p1)]) hx hb dX0_crash_45 hl (by decide) rfl (fun ls hl => ?_)
      refine lv_aload_n hx hb dX0_crash_47 rfl (lv_at hl 4 rfl) ?_
      refine lv_iload hx hb dX0_crash_48 (lv_at hl 0 rfl) ?_
      refine lv_bipush (v := 12) hx hb dX0_crash_50 (by decide) ?_
      refine lv_icmp_le (tgt := 60) hx hb dX0_crash_52 (by decide) (fun c_52 => ?_) (fun c_52 => ?_)
      · refine lv_iload hx hb dX0_crash_60 (lv_at hl 0 rfl) ?_
        refine ca_v (D := (dC, dI)) (wf := wX h0 b cA) hx hb hml hown hts (metX0_moveData l dC dI h0 b cA _ τ2 ((p1 - (x_bits (x_chg σ))) - 1) okτ2) (cwV 1 hts (lw_V q174 q176 qs11 q26 q177) rfl rfl rfl (by decide +kernel) ⟨Nat.le_of_ble_eq_true rfl, Nat.le_of_ble_eq_true rfl⟩) hK hP hD hS hA 0 0 rfl rfl rfl hl.1 rfl (lv_room (Nat.le_of_ble_eq_true rfl)) dX0_crash_62 ⟨Nat.le_of_ble_eq_true rfl, Nat.le_of_ble_eq_true rfl⟩ (fun H locs hP hD hS => ?_)
        obtain ⟨τ3, eτ3⟩ : ∃ z : XS, z = x_move τ2 ((p1 - (x_bits (x_chg σ))) - 1) := ⟨_, rfl⟩
        rw [← eτ3] at hP hD
        have okτ3 : okX τ3 := by rw [eτ3]; exact okX_move _ okτ2
        refine lv_aload_n hx hb dX0_crash_65 rfl (lv_at hl 4 rfl) ?_
        refine va_get (D := (dC, dI)) (ci := 0) (v := .int (τ3.1 8)) (C := RX0) (T := TX0) (N := 17) hx hb hts in_X0 hown hK hP 0 rfl rfl 8 (by decide) (hts _ q44) (fun _ h9 => h9) rfl dX0_crash_66 ?_
        refine lv_if_eq (tgt := 76) hx hb dX0_crash_69 (by decide) (fun c_69 => ?_) (fun c_69 => ?_)
        · refine lv_iconst (v := 0) hx hb dX0_crash_76 (by decide) ?_
          refine lv_istore (lv' := [(5, .int 0), (4, .int p1), (3, .int (x_bits (x_chg σ))), (2, .int (x_chg σ)), (0, .ref h0), (1, .int p1)]) hx hb dX0_crash_77 hl (by decide) rfl (fun ls hl => ?_)
          refine lv_aload_n hx hb dX0_crash_79 rfl (lv_at hl 4 rfl) ?_
          refine ca_v (D := (dC, dI)) (wf := wX h0 b cA) hx hb hml hown hts (metX0_recover l dC dI h0 b cA _ τ3 okτ3) (cwV 0 hts (lw_V q190 q192 qs13 q26 q193) rfl rfl rfl (by decide +kernel) ⟨Nat.le_of_ble_eq_true rfl, Nat.le_of_ble_eq_true rfl⟩) hK hP hD hS hA 0 0 rfl rfl rfl hl.1 rfl (lv_room (Nat.le_of_ble_eq_true rfl)) dX0_crash_80 ⟨Nat.le_of_ble_eq_true rfl, Nat.le_of_ble_eq_true rfl⟩ (fun H locs hP hD hS => ?_)
          obtain ⟨τ4, eτ4⟩ : ∃ z : XS, z = x_recover τ3 := ⟨_, rfl⟩
          rw [← eτ4] at hP hD
          refine lv_iload hx hb dX0_crash_83 (lv_at hl 0 rfl) ?_
          have hqr : 0 = (x_crash σ p1).1 := by simp only [x_crash, x_cr1, x_cr2, x_cr3, if_pos c_12, if_neg c_32, if_pos c_52, if_pos c_69, ← eτ1, ← eτ2, ← eτ3, ← eτ4]
          have hqs : τ4 = (x_crash σ p1).2 := by simp only [x_crash, x_cr1, x_cr2, x_cr3, if_pos c_12, if_neg c_32, if_pos c_52, if_pos c_69, ← eτ1, ← eτ2, ← eτ3, ← eτ4]
          exact W.iret (v := 0) hx hb hr (fun t ht hW => ⟨⟨0, τ4, rfl, ⟨hqr, hqs⟩, by rw [ht]; exact hP, va_K.moved hW.alike hK, hD⟩, hS.F ht⟩) hS.2.2 dX0_crash_85
        · refine lv_iconst (v := 1) hx hb dX0_crash_72 (by decide) ?_
          refine lv_goto (tgt := 77) hx hb dX0_crash_73 (by decide) ?_
          refine lv_istore (lv' := [(5, .int 1), (4, .int p1), (3, .int (x_bits (x_chg σ))), (2, .int (x_chg σ)), (0, .ref h0), (1, .int p1)]) hx hb dX0_crash_77 hl (by decide) rfl (fun ls hl => ?_)
          refine lv_aload_n hx hb dX0_crash_79 rfl (lv_at hl 4 rfl) ?_
          refine ca_v (D := (dC, dI)) (wf := wX h0 b cA) hx hb hml hown hts (metX0_recover l dC dI h0 b cA _ τ3 okτ3) (cwV 0 hts (lw_V q190 q192 qs13 q26 q193) rfl rfl rfl (by decide +kernel) ⟨Nat.le_of_ble_eq_true rfl, Nat.le_of_ble_eq_true rfl⟩) hK hP hD hS hA 0 0 rfl rfl rfl hl.1 rfl (lv_room (Nat.le_of_ble_eq_true rfl)) dX0_crash_80 ⟨Nat.le_of_ble_eq_true rfl, Nat.le_of_ble_eq_true rfl⟩ (fun H locs hP hD hS => ?_)
          obtain ⟨τ4, eτ4⟩ : ∃ z : XS, z = x_recover τ3 := ⟨_, rfl⟩
          rw [← eτ4] at hP hD
          refine lv_iload hx hb dX0_crash_83 (lv_at hl 0 rfl) ?_
          have hqr : 1 = (x_crash σ p1).1 := by simp only [x_crash, x_cr1, x_cr2, x_cr3, if_pos c_12, if_neg c_32, if_pos c_52, if_neg c_69, ← eτ1, ← eτ2, ← eτ3, ← eτ4]
          have hqs : τ4 = (x_crash σ p1).2 := by simp only [x_crash, x_cr1, x_cr2, x_cr3, if_pos c_12, if_neg c_32, if_pos c_52, if_neg c_69, ← eτ1, ← eτ2, ← eτ3, ← eτ4]
          exact W.iret (v := 1) hx hb hr (fun t ht hW => ⟨⟨1, τ4, rfl, ⟨hqr, hqs⟩, by rw [ht]; exact hP, va_K.moved hW.alike hK, hD⟩, hS.F ht⟩) hS.2.2 dX0_crash_85
      · refine lv_bipush (v := 12) hx hb dX0_crash_55 (by decide) ?_
        refine lv_goto (tgt := 62) hx hb dX0_crash_57 (by decide) ?_
        refine ca_v (D := (dC, dI)) (wf := wX h0 b cA) hx hb hml hown hts (metX0_moveData l dC dI h0 b cA _ τ2 12 okτ2) (cwV 1 hts (lw_V q174 q176 qs11 q26 q177) rfl rfl rfl (by decide +kernel) ⟨Nat.le_of_ble_eq_true rfl, Nat.le_of_ble_eq_true rfl⟩) hK hP hD hS hA 0 0 rfl rfl rfl hl.1 rfl (lv_room (Nat.le_of_ble_eq_true rfl)) dX0_crash_62 ⟨Nat.le_of_ble_eq_true rfl, Nat.le_of_ble_eq_true rfl⟩ (fun H locs hP hD hS => ?_)
        obtain ⟨τ3, eτ3⟩ : ∃ z : XS, z = x_move τ2 12 := ⟨_, rfl⟩
        rw [← eτ3] at hP hD
        have okτ3 : okX τ3 := by rw [eτ3]; exact okX_move _ okτ2
        refine lv_aload_n hx hb dX0_crash_65 rfl (lv_at hl 4 rfl) ?_
        refine va_get (D := (dC, dI)) (ci := 0) (v := .int (τ3.1 8)) (C := RX0) (T := TX0) (N := 17) hx hb hts in_X0 hown hK hP 0 rfl rfl 8 (by decide) (hts _ q44) (fun _ h9 => h9) rfl dX0_crash_66 ?_
        refine lv_if_eq (tgt := 76) hx hb dX0_crash_69 (by decide) (fun c_69 => ?_) (fun c_69 => ?_)
        · refine lv_iconst (v := 0) hx hb dX0_crash_76 (by decide) ?_
          refine lv_istore (lv' := [(5, .int 0), (4, .int p1), (3, .int (x_bits (x_chg σ))), (2, .int (x_chg σ)), (0, .ref h0), (1, .int p1)]) hx hb dX0_crash_77 hl (by decide) rfl (fun ls hl => ?_)
          refine lv_aload_n hx hb dX0_crash_79 rfl (lv_at hl 4 rfl) ?_
          refine ca_v (D := (dC, dI)) (wf := wX h0 b cA) hx hb hml hown hts (metX0_recover l dC dI h0 b cA _ τ3 okτ3) (cwV 0 hts (lw_V q190 q192 qs13 q26 q193) rfl rfl rfl (by decide +kernel) ⟨Nat.le_of_ble_eq_true rfl, Nat.le_of_ble_eq_true rfl⟩) hK hP hD hS hA 0 0 rfl rfl rfl hl.1 rfl (lv_room (Nat.le_of_ble_eq_true rfl)) dX0_crash_80 ⟨Nat.le_of_ble_eq_true rfl, Nat.le_of_ble_eq_true rfl⟩ (fun H locs hP hD hS => ?_)
          obtain ⟨τ4, eτ4⟩ : ∃ z : XS, z = x_recover τ3 := ⟨_, rfl⟩
          rw [← eτ4] at hP hD
          refine lv_iload hx hb dX0_crash_83 (lv_at hl 0 rfl) ?_
          have hqr : 0 = (x_crash σ p1).1 := by simp only [x_crash, x_cr1, x_cr2, x_cr3, if_pos c_12, if_neg c_32, if_neg c_52, if_pos c_69, ← eτ1, ← eτ2, ← eτ3, ← eτ4]
          have hqs : τ4 = (x_crash σ p1).2 := by simp only [x_crash, x_cr1, x_cr2, x_cr3, if_pos c_12, if_neg c_32, if_neg c_52, if_pos c_69, ← eτ1, ← eτ2, ← eτ3, ← eτ4]
          exact W.iret (v := 0) hx hb hr (fun t ht hW => ⟨⟨0, τ4, rfl, ⟨hqr, hqs⟩, by rw [ht]; exact hP, va_K.moved hW.alike hK, hD⟩, hS.F ht⟩) hS.2.2 dX0_crash_85
        · refine lv_iconst (v := 1) hx hb dX0_crash_72 (by decide) ?_
          refine lv_goto (tgt := 77) hx hb dX0_crash_73 (by decide) ?_
          refine lv_istore (lv' := [(5, .int 1), (4, .int p1), (3, .int (x_bits (x_chg σ))), (2, .int (x_chg σ)), (0, .ref h0), (1, .int p1)]) hx hb dX0_crash_77 hl (by decide) rfl (fun ls hl => ?_)
          refine lv_aload_n hx hb dX0_crash_79 rfl (lv_at hl 4 rfl) ?_
          refine ca_v (D := (dC, dI)) (wf := wX h0 b cA) hx hb hml hown hts (metX0_recover l dC dI h0 b cA _ τ3 okτ3) (cwV 0 hts (lw_V q190 q192 qs13 q26 q193) rfl rfl rfl (by decide +kernel) ⟨Nat.le_of_ble_eq_true rfl, Nat.le_of_ble_eq_true rfl⟩) hK hP hD hS hA 0 0 rfl rfl rfl hl.1 rfl (lv_room (Nat.le_of_ble_eq_true rfl)) dX0_crash_80 ⟨Nat.le_of_ble_eq_true rfl, Nat.le_of_ble_eq_true rfl⟩ (fun H locs hP hD hS => ?_)
          obtain ⟨τ4, eτ4⟩ : ∃ z : XS, z = x_recover τ3 := ⟨_, rfl⟩
          rw [← eτ4] at hP hD
          refine lv_iload hx hb dX0_crash_83 (lv_at hl 0 rfl) ?_
          have hqr : 1 = (x_crash σ p1).1 := by simp only [x_crash, x_cr1, x_cr2, x_cr3, if_pos c_12, if_neg c_32, if_neg c_52, if_neg c_69, ← eτ1, ← eτ2, ← eτ3, ← eτ4]
          have hqs : τ4 = (x_crash σ p1).2 := by simp only [x_crash, x_cr1, x_cr2, x_cr3, if_pos c_12, if_neg c_32, if_neg c_52, if_neg c_69, ← eτ1, ← eτ2, ← eτ3, ← eτ4]
          exact W.iret (v := 1) hx hb hr (fun t ht hW => ⟨⟨1, τ4, rfl, ⟨hqr, hqs⟩, by rw [ht]; exact hP, va_K.moved hW.alike hK, hD⟩, hS.F ht⟩) hS.2.2 dX0_crash_85
  · refine lv_iconst (v := 0) hx hb dX0_crash_15 (by decide) ?_
    refine lv_goto (tgt := 20) hx hb dX0_crash_16 (by decide) ?_
    refine lv_istore (lv' := [(4, .int 0), (3, .int (x_bits (x_chg σ))), (2, .int (x_chg σ)), (0, .ref h0), (1, .int p1)]) hx hb dX0_crash_20 hl (by decide) rfl (fun ls hl => ?_)
    refine lv_aload_n hx hb dX0_crash_22 rfl (lv_at hl 3 rfl) ?_
    refine lv_iload_n hx hb dX0_crash_23 rfl (lv_at hl 2 rfl) ?_
    refine lv_iload hx hb dX0_crash_24 (lv_at hl 0 rfl) ?_
    refine ca_v (D := (dC, dI)) (wf := wX h0 b cA) hx hb hml hown hts (metX0_writeLog l dC dI h0 b cA _ σ (x_chg σ) 0 hok) (cwV 2 hts (lw_V q166 q168 qs9 q26 q169) rfl rfl rfl (by decide +kernel) ⟨Nat.le_of_ble_eq_true rfl, Nat.le_of_ble_eq_true rfl⟩) hK hP hD hS hA 0 0 rfl rfl rfl hl.1 rfl (lv_room (Nat.le_of_ble_eq_true rfl)) dX0_crash_26 ⟨Nat.le_of_ble_eq_true rfl, Nat.le_of_ble_eq_true rfl⟩ (fun H locs hP hD hS => ?_)
    obtain ⟨τ1, eτ1⟩ : ∃ z : XS, z = x_wlog σ (x_chg σ) 0 := ⟨_, rfl⟩
    rw [← eτ1] at hP hD
    have okτ1 : okX τ1 := by rw [eτ1]; exact okX_wlog _ _ hok
    refine lv_iload hx hb dX0_crash_29 (lv_at hl 0 rfl) ?_
    refine lv_iload_n hx hb dX0_crash_31 rfl (lv_at hl 1 rfl) ?_
    refine lv_icmp_le (tgt := 65) hx hb dX0_crash_32 (by decide) (fun c_32 => ?_) (fun c_32 => ?_)
    · refine lv_aload_n hx hb dX0_crash_65 rfl (lv_at hl 3 rfl) ?_
      refine va_get (D := (dC, dI)) (ci := 0) (v := .int (τ1.1 8)) (C := RX0) (T := TX0) (N := 17) hx hb hts in_X0 hown hK hP 0 rfl rfl 8 (by decide) (hts _ q44) (fun _ h9 => h9) rfl dX0_crash_66 ?_
      refine lv_if_eq (tgt := 76) hx hb dX0_crash_69 (by decide) (fun c_69 => ?_) (fun c_69 => ?_)
      · refine lv_iconst (v := 0) hx hb dX0_crash_76 (by decide) ?_
        refine lv_istore (lv' := [(5, .int 0), (4, .int 0), (3, .int (x_bits (x_chg σ))), (2, .int (x_chg σ)), (0, .ref h0), (1, .int p1)]) hx hb dX0_crash_77 hl (by decide) rfl (fun ls hl => ?_)
        refine lv_aload_n hx hb dX0_crash_79 rfl (lv_at hl 4 rfl) ?_
        refine ca_v (D := (dC, dI)) (wf := wX h0 b cA) hx hb hml hown hts (metX0_recover l dC dI h0 b cA _ τ1 okτ1) (cwV 0 hts (lw_V q190 q192 qs13 q26 q193) rfl rfl rfl (by decide +kernel) ⟨Nat.le_of_ble_eq_true rfl, Nat.le_of_ble_eq_true rfl⟩) hK hP hD hS hA 0 0 rfl rfl rfl hl.1 rfl (lv_room (Nat.le_of_ble_eq_true rfl)) dX0_crash_80 ⟨Nat.le_of_ble_eq_true rfl, Nat.le_of_ble_eq_true rfl⟩ (fun H locs hP hD hS => ?_)
        obtain ⟨τ2, eτ2⟩ : ∃ z : XS, z = x_recover τ1 := ⟨_, rfl⟩
        rw [← eτ2] at hP hD
        refine lv_iload hx hb dX0_crash_83 (lv_at hl 0 rfl) ?_
        have hqr : 0 = (x_crash σ p1).1 := by simp only [x_crash, x_cr1, x_cr2, x_cr3, if_neg c_12, if_pos c_32, if_pos c_69, ← eτ1, ← eτ2]
        have hqs : τ2 = (x_crash σ p1).2 := by simp only [x_crash, x_cr1, x_cr2, x_cr3, if_neg c_12, if_pos c_32, if_pos c_69, ← eτ1, ← eτ2]
        exact W.iret (v := 0) hx hb hr (fun t ht hW => ⟨⟨0, τ2, rfl, ⟨hqr, hqs⟩, by rw [ht]; exact hP, va_K.moved hW.alike hK, hD⟩, hS.F ht⟩) hS.2.2 dX0_crash_85
      · refine lv_iconst (v := 1) hx hb dX0_crash_72 (by decide) ?_
        refine lv_goto (tgt := 77) hx hb dX0_crash_73 (by decide) ?_
        refine lv_istore (lv' := [(5, .int 1), (4, .int 0), (3, .int (x_bits (x_chg σ))), (2, .int (x_chg σ)), (0, .ref h0), (1, .int p1)]) hx hb dX0_crash_77 hl (by decide) rfl (fun ls hl => ?_)
        refine lv_aload_n hx hb dX0_crash_79 rfl (lv_at hl 4 rfl) ?_
        refine ca_v (D := (dC, dI)) (wf := wX h0 b cA) hx hb hml hown hts (metX0_recover l dC dI h0 b cA _ τ1 okτ1) (cwV 0 hts (lw_V q190 q192 qs13 q26 q193) rfl rfl rfl (by decide +kernel) ⟨Nat.le_of_ble_eq_true rfl, Nat.le_of_ble_eq_true rfl⟩) hK hP hD hS hA 0 0 rfl rfl rfl hl.1 rfl (lv_room (Nat.le_of_ble_eq_true rfl)) dX0_crash_80 ⟨Nat.le_of_ble_eq_true rfl, Nat.le_of_ble_eq_true rfl⟩ (fun H locs hP hD hS => ?_)
        obtain ⟨τ2, eτ2⟩ : ∃ z : XS, z = x_recover τ1 := ⟨_, rfl⟩
        rw [← eτ2] at hP hD
        refine lv_iload hx hb dX0_crash_83 (lv_at hl 0 rfl) ?_
        have hqr : 1 = (x_crash σ p1).1 := by simp only [x_crash, x_cr1, x_cr2, x_cr3, if_neg c_12, if_pos c_32, if_neg c_69, ← eτ1, ← eτ2]
        have hqs : τ2 = (x_crash σ p1).2 := by simp only [x_crash, x_cr1, x_cr2, x_cr3, if_neg c_12, if_pos c_32, if_neg c_69, ← eτ1, ← eτ2]
        exact W.iret (v := 1) hx hb hr (fun t ht hW => ⟨⟨1, τ2, rfl, ⟨hqr, hqs⟩, by rw [ht]; exact hP, va_K.moved hW.alike hK, hD⟩, hS.F ht⟩) hS.2.2 dX0_crash_85
    · refine lv_aload_n hx hb dX0_crash_35 rfl (lv_at hl 3 rfl) ?_
      refine ca_v (D := (dC, dI)) (wf := wX h0 b cA) hx hb hml hown hts (metX0_writeMark l dC dI h0 b cA _ τ1 ) (cwV 0 hts (lw_V q170 q172 qs10 q26 q173) rfl rfl rfl (by decide +kernel) ⟨Nat.le_of_ble_eq_true rfl, Nat.le_of_ble_eq_true rfl⟩) hK hP hD hS hA 0 0 rfl rfl rfl hl.1 rfl (lv_room (Nat.le_of_ble_eq_true rfl)) dX0_crash_36 ⟨Nat.le_of_ble_eq_true rfl, Nat.le_of_ble_eq_true rfl⟩ (fun H locs hP hD hS => ?_)
      obtain ⟨τ2, eτ2⟩ : ∃ z : XS, z = x_mark τ1 := ⟨_, rfl⟩
      rw [← eτ2] at hP hD
      have okτ2 : okX τ2 := by rw [eτ2]; exact okX_mark okτ1
      refine lv_iload hx hb dX0_crash_39 (lv_at hl 0 rfl) ?_
      refine lv_iload_n hx hb dX0_crash_41 rfl (lv_at hl 1 rfl) ?_
      refine lv_isub hx hb dX0_crash_42 ?_
      refine lv_iconst (v := 1) hx hb dX0_crash_43 (by decide) ?_
      refine lv_isub hx hb dX0_crash_44 ?_
      refine lv_istore (lv' := [(5, .int ((0 - (x_bits (x_chg σ))) - 1)), (4, .int 0), (3, .int (x_bits (x_chg σ))), (2, .int (x_chg σ)), (0, .ref h0), (1, .int p1)]) hx hb dX0_crash_45 hl (by decide) rfl (fun ls hl => ?_)
      refine lv_aload_n hx hb dX0_crash_47 rfl (lv_at hl 4 rfl) ?_
      refine lv_iload hx hb dX0_crash_48 (lv_at hl 0 rfl) ?_
      refine lv_bipush (v := 12) hx hb dX0_crash_50 (by decide) ?_
      refine lv_icmp_le (tgt := 60) hx hb dX0_crash_52 (by decide) (fun c_52 => ?_) (fun c_52 => ?_)
      · refine lv_iload hx hb dX0_crash_60 (lv_at hl 0 rfl) ?_
        refine ca_v (D := (dC, dI)) (wf := wX h0 b cA) hx hb hml hown hts (metX0_moveData l dC dI h0 b cA _ τ2 ((0 - (x_bits (x_chg σ))) - 1) okτ2) (cwV 1 hts (lw_V q174 q176 qs11 q26 q177) rfl rfl rfl (by decide +kernel) ⟨Nat.le_of_ble_eq_true rfl, Nat.le_of_ble_eq_true rfl⟩) hK hP hD hS hA 0 0 rfl rfl rfl hl.1 rfl (lv_room (Nat.le_of_ble_eq_true rfl)) dX0_crash_62 ⟨Nat.le_of_ble_eq_true rfl, Nat.le_of_ble_eq_true rfl⟩ (fun H locs hP hD hS => ?_)
        obtain ⟨τ3, eτ3⟩ : ∃ z : XS, z = x_move τ2 ((0 - (x_bits (x_chg σ))) - 1) := ⟨_, rfl⟩
        rw [← eτ3] at hP hD
        have okτ3 : okX τ3 := by rw [eτ3]; exact okX_move _ okτ2
        refine lv_aload_n hx hb dX0_crash_65 rfl (lv_at hl 4 rfl) ?_
        refine va_get (D := (dC, dI)) (ci := 0) (v := .int (τ3.1 8)) (C := RX0) (T := TX0) (N := 17) hx hb hts in_X0 hown hK hP 0 rfl rfl 8 (by decide) (hts _ q44) (fun _ h9 => h9) rfl dX0_crash_66 ?_
        refine lv_if_eq (tgt := 76) hx hb dX0_crash_69 (by decide) (fun c_69 => ?_) (fun c_69 => ?_)
        · refine lv_iconst (v := 0) hx hb dX0_crash_76 (by decide) ?_
          refine lv_istore (lv' := [(5, .int 0), (4, .int 0), (3, .int (x_bits (x_chg σ))), (2, .int (x_chg σ)), (0, .ref h0), (1, .int p1)]) hx hb dX0_crash_77 hl (by decide) rfl (fun ls hl => ?_)
          refine lv_aload_n hx hb dX0_crash_79 rfl (lv_at hl 4 rfl) ?_
          refine ca_v (D := (dC, dI)) (wf := wX h0 b cA) hx hb hml hown hts (metX0_recover l dC dI h0 b cA _ τ3 okτ3) (cwV 0 hts (lw_V q190 q192 qs13 q26 q193) rfl rfl rfl (by decide +kernel) ⟨Nat.le_of_ble_eq_true rfl, Nat.le_of_ble_eq_true rfl⟩) hK hP hD hS hA 0 0 rfl rfl rfl hl.1 rfl (lv_room (Nat.le_of_ble_eq_true rfl)) dX0_crash_80 ⟨Nat.le_of_ble_eq_true rfl, Nat.le_of_ble_eq_true rfl⟩ (fun H locs hP hD hS => ?_)
          obtain ⟨τ4, eτ4⟩ : ∃ z : XS, z = x_recover τ3 := ⟨_, rfl⟩
          rw [← eτ4] at hP hD
          refine lv_iload hx hb dX0_crash_83 (lv_at hl 0 rfl) ?_
          have hqr : 0 = (x_crash σ p1).1 := by simp only [x_crash, x_cr1, x_cr2, x_cr3, if_neg c_12, if_neg c_32, if_pos c_52, if_pos c_69, ← eτ1, ← eτ2, ← eτ3, ← eτ4]
          have hqs : τ4 = (x_crash σ p1).2 := by simp only [x_crash, x_cr1, x_cr2, x_cr3, if_neg c_12, if_neg c_32, if_pos c_52, if_pos c_69, ← eτ1, ← eτ2, ← eτ3, ← eτ4]
          exact W.iret (v := 0) hx hb hr (fun t ht hW => ⟨⟨0, τ4, rfl, ⟨hqr, hqs⟩, by rw [ht]; exact hP, va_K.moved hW.alike hK, hD⟩, hS.F ht⟩) hS.2.2 dX0_crash_85
        · refine lv_iconst (v := 1) hx hb dX0_crash_72 (by decide) ?_
          refine lv_goto (tgt := 77) hx hb dX0_crash_73 (by decide) ?_
          refine lv_istore (lv' := [(5, .int 1), (4, .int 0), (3, .int (x_bits (x_chg σ))), (2, .int (x_chg σ)), (0, .ref h0), (1, .int p1)]) hx hb dX0_crash_77 hl (by decide) rfl (fun ls hl => ?_)
          refine lv_aload_n hx hb dX0_crash_79 rfl (lv_at hl 4 rfl) ?_
          refine ca_v (D := (dC, dI)) (wf := wX h0 b cA) hx hb hml hown hts (metX0_recover l dC dI h0 b cA _ τ3 okτ3) (cwV 0 hts (lw_V q190 q192 qs13 q26 q193) rfl rfl rfl (by decide +kernel) ⟨Nat.le_of_ble_eq_true rfl, Nat.le_of_ble_eq_true rfl⟩) hK hP hD hS hA 0 0 rfl rfl rfl hl.1 rfl (lv_room (Nat.le_of_ble_eq_true rfl)) dX0_crash_80 ⟨Nat.le_of_ble_eq_true rfl, Nat.le_of_ble_eq_true rfl⟩ (fun H locs hP hD hS => ?_)
          obtain ⟨τ4, eτ4⟩ : ∃ z : XS, z = x_recover τ3 := ⟨_, rfl⟩
          rw [← eτ4] at hP hD
          refine lv_iload hx hb dX0_crash_83 (lv_at hl 0 rfl) ?_
          have hqr : 1 = (x_crash σ p1).1 := by simp only [x_crash, x_cr1, x_cr2, x_cr3, if_neg c_12, if_neg c_32, if_pos c_52, if_neg c_69, ← eτ1, ← eτ2, ← eτ3, ← eτ4]
          have hqs : τ4 = (x_crash σ p1).2 := by simp only [x_crash, x_cr1, x_cr2, x_cr3, if_neg c_12, if_neg c_32, if_pos c_52, if_neg c_69, ← eτ1, ← eτ2, ← eτ3, ← eτ4]
          exact W.iret (v := 1) hx hb hr (fun t ht hW => ⟨⟨1, τ4, rfl, ⟨hqr, hqs⟩, by rw [ht]; exact hP, va_K.moved hW.alike hK, hD⟩, hS.F ht⟩) hS.2.2 dX0_crash_85
      · refine lv_bipush (v := 12) hx hb dX0_crash_55 (by decide) ?_
        refine lv_goto (tgt := 62) hx hb dX0_crash_57 (by decide) ?_
        refine ca_v (D := (dC, dI)) (wf := wX h0 b cA) hx hb hml hown hts (metX0_moveData l dC dI h0 b cA _ τ2 12 okτ2) (cwV 1 hts (lw_V q174 q176 qs11 q26 q177) rfl rfl rfl (by decide +kernel) ⟨Nat.le_of_ble_eq_true rfl, Nat.le_of_ble_eq_true rfl⟩) hK hP hD hS hA 0 0 rfl rfl rfl hl.1 rfl (lv_room (Nat.le_of_ble_eq_true rfl)) dX0_crash_62 ⟨Nat.le_of_ble_eq_true rfl, Nat.le_of_ble_eq_true rfl⟩ (fun H locs hP hD hS => ?_)
        obtain ⟨τ3, eτ3⟩ : ∃ z : XS, z = x_move τ2 12 := ⟨_, rfl⟩
        rw [← eτ3] at hP hD
        have okτ3 : okX τ3 := by rw [eτ3]; exact okX_move _ okτ2
        refine lv_aload_n hx hb dX0_crash_65 rfl (lv_at hl 4 rfl) ?_
        refine va_get (D := (dC, dI)) (ci := 0) (v := .int (τ3.1 8)) (C := RX0) (T := TX0) (N := 17) hx hb hts in_X0 hown hK hP 0 rfl rfl 8 (by decide) (hts _ q44) (fun _ h9 => h9) rfl dX0_crash_66 ?_
        refine lv_if_eq (tgt := 76) hx hb dX0_crash_69 (by decide) (fun c_69 => ?_) (fun c_69 => ?_)
        · refine lv_iconst (v := 0) hx hb dX0_crash_76 (by decide) ?_
          refine lv_istore (lv' := [(5, .int 0), (4, .int 0), (3, .int (x_bits (x_chg σ))), (2, .int (x_chg σ)), (0, .ref h0), (1, .int p1)]) hx hb dX0_crash_77 hl (by decide) rfl (fun ls hl => ?_)
          refine lv_aload_n hx hb dX0_crash_79 rfl (lv_at hl 4 rfl) ?_
          refine ca_v (D := (dC, dI)) (wf := wX h0 b cA) hx hb hml hown hts (metX0_recover l dC dI h0 b cA _ τ3 okτ3) (cwV 0 hts (lw_V q190 q192 qs13 q26 q193) rfl rfl rfl (by decide +kernel) ⟨Nat.le_of_ble_eq_true rfl, Nat.le_of_ble_eq_true rfl⟩) hK hP hD hS hA 0 0 rfl rfl rfl hl.1 rfl (lv_room (Nat.le_of_ble_eq_true rfl)) dX0_crash_80 ⟨Nat.le_of_ble_eq_true rfl, Nat.le_of_ble_eq_true rfl⟩ (fun H locs hP hD hS => ?_)
          obtain ⟨τ4, eτ4⟩ : ∃ z : XS, z = x_recover τ3 := ⟨_, rfl⟩
          rw [← eτ4] at hP hD
          refine lv_iload hx hb dX0_crash_83 (lv_at hl 0 rfl) ?_
          have hqr : 0 = (x_crash σ p1).1 := by simp only [x_crash, x_cr1, x_cr2, x_cr3, if_neg c_12, if_neg c_32, if_neg c_52, if_pos c_69, ← eτ1, ← eτ2, ← eτ3, ← eτ4]
          have hqs : τ4 = (x_crash σ p1).2 := by simp only [x_crash, x_cr1, x_cr2, x_cr3, if_neg c_12, if_neg c_32, if_neg c_52, if_pos c_69, ← eτ1, ← eτ2, ← eτ3, ← eτ4]
          exact W.iret (v := 0) hx hb hr (fun t ht hW => ⟨⟨0, τ4, rfl, ⟨hqr, hqs⟩, by rw [ht]; exact hP, va_K.moved hW.alike hK, hD⟩, hS.F ht⟩) hS.2.2 dX0_crash_85
        · refine lv_iconst (v := 1) hx hb dX0_crash_72 (by decide) ?_
          refine lv_goto (tgt := 77) hx hb dX0_crash_73 (by decide) ?_
          refine lv_istore (lv' := [(5, .int 1), (4, .int 0), (3, .int (x_bits (x_chg σ))), (2, .int (x_chg σ)), (0, .ref h0), (1, .int p1)]) hx hb dX0_crash_77 hl (by decide) rfl (fun ls hl => ?_)
          refine lv_aload_n hx hb dX0_crash_79 rfl (lv_at hl 4 rfl) ?_
          refine ca_v (D := (dC, dI)) (wf := wX h0 b cA) hx hb hml hown hts (metX0_recover l dC dI h0 b cA _ τ3 okτ3) (cwV 0 hts (lw_V q190 q192 qs13 q26 q193) rfl rfl rfl (by decide +kernel) ⟨Nat.le_of_ble_eq_true rfl, Nat.le_of_ble_eq_true rfl⟩) hK hP hD hS hA 0 0 rfl rfl rfl hl.1 rfl (lv_room (Nat.le_of_ble_eq_true rfl)) dX0_crash_80 ⟨Nat.le_of_ble_eq_true rfl, Nat.le_of_ble_eq_true rfl⟩ (fun H locs hP hD hS => ?_)
          obtain ⟨τ4, eτ4⟩ : ∃ z : XS, z = x_recover τ3 := ⟨_, rfl⟩
          rw [← eτ4] at hP hD
          refine lv_iload hx hb dX0_crash_83 (lv_at hl 0 rfl) ?_
          have hqr : 1 = (x_crash σ p1).1 := by simp only [x_crash, x_cr1, x_cr2, x_cr3, if_neg c_12, if_neg c_32, if_neg c_52, if_neg c_69, ← eτ1, ← eτ2, ← eτ3, ← eτ4]
          have hqs : τ4 = (x_crash σ p1).2 := by simp only [x_crash, x_cr1, x_cr2, x_cr3, if_neg c_12, if_neg c_32, if_neg c_52, if_neg c_69, ← eτ1, ← eτ2, ← eτ3, ← eτ4]
          exact W.iret (v := 1) hx hb hr (fun t ht hW => ⟨⟨1, τ4, rfl, ⟨hqr, hqs⟩, by rw [ht]; exact hP, va_K.moved hW.alike hK, hD⟩, hS.F ht⟩) hS.2.2 dX0_crash_85

set_option maxHeartbeats 4000000 in
theorem metX0_reachable (l : Launch) (dC : Nat → ClassId) (dI : Nat → Nat → Nat) (h0 : Nat) (b : Nat → Nat) (cA : Nat → ClassId) (sz : Nat) (σ : XS) : MetI l yX0_reachable (ws_ yX0_reachable cX0_reachable 2 (some .int)) ({ frames := 2, cells := 0, slots := 0, locals := 49 }) (dC, dI) (tX cA) (wX h0 b cA) h0 [] sz σ (x_reachable σ) σ := by
  refine Met.ofW (cc := cX0_reachable) (maxL := 2) (ret := (some .int)) (by decide) rfl ?_
  intro p e s m args below meth c s₁ B hml hv
  obtain ⟨rfl, hsz, hP, hK, hD0⟩ := hv
  have hx := B.exec
  have hb := B.bytes
  have hr := B.returns
  have hts := atoms_spec (ws := (ws_ yX0_reachable cX0_reachable 2 (some .int))) B.pre
  have hts : ∀ w ∈ lw_all, w.before _ s = true := fun w h => hts w (List.mem_cons_of_mem _ h)
  have hown : s.vm.findClass RX0 = some m.cls := findClass_of_methodNamed B.named
  have hlocks := B.notSynchronized
  subst hsz
  have hD := hD0.self (sz := s.heap.size)
  generalize hAe : va_A (wX h0 b cA σ) s.heap.size = A at hD ⊢
  have hA : ∀ q : Nat, s.heap.size ≤ q → A q := fun q h => by rw [← hAe]; exact Or.inr h
  have hS : va_S A s.heap s.heap [] := va_S.rf
  have hl := lv_entry ([.ref h0]) (n := 2) (Nat.le_of_ble_eq_true rfl)
  rw [lg_entry_eq]
  generalize (lg_sl ([.ref h0]) ++ List.replicate (2 - (lg_sl ([.ref h0])).length) Slot.unset).toArray = ls at hl ⊢
  have hl : lv_has ls 2 [(0, .ref h0)] := hl
  refine lv_aload_n hx hb dX0_reachable_0 rfl (lv_at hl 0 rfl) ?_
  refine lv_aload_n hx hb dX0_reachable_1 rfl (lv_at hl 0 rfl) ?_
  refine va_get (D := (dC, dI)) (ci := 0) (v := .int (σ.1 15)) (C := RX0) (T := TX0) (N := 17) hx hb hts in_X0 hown hK hP 0 rfl rfl 15 (by decide) (hts _ q51) (fun _ h9 => h9) rfl dX0_reachable_2 ?_
  refine lv_if_ge (tgt := 12) hx hb dX0_reachable_5 (by decide) (fun c_5 => ?_) (fun c_5 => ?_)
  · refine lv_iconst (v := 1) hx hb dX0_reachable_12 (by decide) ?_
    refine lv_aload_n hx hb dX0_reachable_13 rfl (lv_at hl 0 rfl) ?_
    refine va_get (D := (dC, dI)) (ci := 0) (v := .int (σ.1 15)) (C := RX0) (T := TX0) (N := 17) hx hb hts in_X0 hown hK hP 0 rfl rfl 15 (by decide) (hts _ q51) (fun _ h9 => h9) rfl dX0_reachable_14 ?_
    refine lv_ishl hx hb dX0_reachable_17 ?_
    refine lv_tope (y := bitO (σ.1 15)) (by simp only [bitO, if_pos c_5]) ?_
    refine ca_i (D := (dC, dI)) (wf := wX h0 b cA) hx hb hml hown hts (metX0_closure l dC dI h0 b cA _ σ (bitO (σ.1 15))) (cwV 1 hts (lw_V q102 q104 qs2 q26 q105) rfl rfl rfl (by decide +kernel) ⟨Nat.le_of_ble_eq_true rfl, Nat.le_of_ble_eq_true rfl⟩) hK hP hD hS hA 0 0 rfl rfl rfl hl.1 rfl (lv_room (Nat.le_of_ble_eq_true rfl)) dX0_reachable_18 ⟨Nat.le_of_ble_eq_true rfl, Nat.le_of_ble_eq_true rfl⟩ (fun H locs hP hD hS => ?_)
    refine lv_istore_n (lv' := [(1, .int (x_clo σ (bitO (σ.1 15)))), (0, .ref h0)]) hx hb dX0_reachable_21 rfl hl (by decide) rfl (fun ls hl => ?_)
    refine lv_aload_n hx hb dX0_reachable_22 rfl (lv_at hl 1 rfl) ?_
    refine lv_iload_n hx hb dX0_reachable_23 rfl (lv_at hl 0 rfl) ?_
    refine ca_i (D := (dC, dI)) (wf := wX h0 b cA) hx hb hml hown hts (metX0_bitsIn l dC dI h0 b cA _ σ (x_clo σ (bitO (σ.1 15)))) (cwV 1 hts (lw_V q110 q112 qs4 q26 q113) rfl rfl rfl (by decide +kernel) ⟨Nat.le_of_ble_eq_true rfl, Nat.le_of_ble_eq_true rfl⟩) hK hP hD hS hA 0 0 rfl rfl rfl hl.1 rfl (lv_room (Nat.le_of_ble_eq_true rfl)) dX0_reachable_24 ⟨Nat.le_of_ble_eq_true rfl, Nat.le_of_ble_eq_true rfl⟩ (fun H locs hP hD hS => ?_)
    have hqr : x_bits (x_clo σ (bitO (σ.1 15))) = x_reachable σ := by simp only [x_reachable, x_reachS, if_pos c_5]
    have hqs : σ = σ := rfl
    exact W.iret (v := x_bits (x_clo σ (bitO (σ.1 15)))) hx hb hr (fun t ht hW => ⟨⟨x_bits (x_clo σ (bitO (σ.1 15))), σ, rfl, ⟨hqr, hqs⟩, by rw [ht]; exact hP, va_K.moved hW.alike hK, hD⟩, hS.F ht⟩) hS.2.2 dX0_reachable_27
  · refine lv_iconst (v := 0) hx hb dX0_reachable_8 (by decide) ?_
    refine lv_goto (tgt := 18) hx hb dX0_reachable_9 (by decide) ?_
    refine lv_tope (y := bitO (σ.1 15)) (by simp only [bitO, if_neg c_5]) ?_
    refine ca_i (D := (dC, dI)) (wf := wX h0 b cA) hx hb hml hown hts (metX0_closure l dC dI h0 b cA _ σ (bitO (σ.1 15))) (cwV 1 hts (lw_V q102 q104 qs2 q26 q105) rfl rfl rfl (by decide +kernel) ⟨Nat.le_of_ble_eq_true rfl, Nat.le_of_ble_eq_true rfl⟩) hK hP hD hS hA 0 0 rfl rfl rfl hl.1 rfl (lv_room (Nat.le_of_ble_eq_true rfl)) dX0_reachable_18 ⟨Nat.le_of_ble_eq_true rfl, Nat.le_of_ble_eq_true rfl⟩ (fun H locs hP hD hS => ?_)
    refine lv_istore_n (lv' := [(1, .int (x_clo σ (bitO (σ.1 15)))), (0, .ref h0)]) hx hb dX0_reachable_21 rfl hl (by decide) rfl (fun ls hl => ?_)
    refine lv_aload_n hx hb dX0_reachable_22 rfl (lv_at hl 1 rfl) ?_
    refine lv_iload_n hx hb dX0_reachable_23 rfl (lv_at hl 0 rfl) ?_
    refine ca_i (D := (dC, dI)) (wf := wX h0 b cA) hx hb hml hown hts (metX0_bitsIn l dC dI h0 b cA _ σ (x_clo σ (bitO (σ.1 15)))) (cwV 1 hts (lw_V q110 q112 qs4 q26 q113) rfl rfl rfl (by decide +kernel) ⟨Nat.le_of_ble_eq_true rfl, Nat.le_of_ble_eq_true rfl⟩) hK hP hD hS hA 0 0 rfl rfl rfl hl.1 rfl (lv_room (Nat.le_of_ble_eq_true rfl)) dX0_reachable_24 ⟨Nat.le_of_ble_eq_true rfl, Nat.le_of_ble_eq_true rfl⟩ (fun H locs hP hD hS => ?_)
    have hqr : x_bits (x_clo σ (bitO (σ.1 15))) = x_reachable σ := by simp only [x_reachable, x_reachS, if_neg c_5]
    have hqs : σ = σ := rfl
    exact W.iret (v := x_bits (x_clo σ (bitO (σ.1 15)))) hx hb hr (fun t ht hW => ⟨⟨x_bits (x_clo σ (bitO (σ.1 15))), σ, rfl, ⟨hqr, hqs⟩, by rw [ht]; exact hP, va_K.moved hW.alike hK, hD⟩, hS.F ht⟩) hS.2.2 dX0_reachable_27
end
section
set_option maxRecDepth 100000
set_option maxHeartbeats 4000000 in
theorem metX1_isHandle (l : Launch) (dC : Nat → ClassId) (dI : Nat → Nat → Nat) (h0 : Nat) (b : Nat → Nat) (cA : Nat → ClassId) (sz : Nat) (σ : XS) (p1 : Int32) : MetI l yX1_isHandle (ws_ yX1_isHandle cX1_isHandle 2 (some .boolean)) ({ frames := 0, cells := 0, slots := 0, locals := 0 }) (dC, dI) (tM cA) (wM h0 b cA) h0 [.int p1] sz σ (x_isH p1) σ := by
  refine Met.ofW (cc := cX1_isHandle) (maxL := 2) (ret := (some .boolean)) (by decide) rfl ?_
  intro p e s m args below meth c s₁ B hml hv
  obtain ⟨rfl, hsz, hP, hK, hD0⟩ := hv
  have hx := B.exec
  have hb := B.bytes
  have hr := B.returns
  have hts := atoms_spec (ws := (ws_ yX1_isHandle cX1_isHandle 2 (some .boolean))) B.pre
  have hts : ∀ w ∈ lw_all, w.before _ s = true := fun w h => hts w (List.mem_cons_of_mem _ h)
  have hown : s.vm.findClass RX1 = some m.cls := findClass_of_methodNamed B.named
  have hlocks := B.notSynchronized
  subst hsz
  have hD := hD0.self (sz := s.heap.size)
  generalize hAe : va_A (wM h0 b cA σ) s.heap.size = A at hD ⊢
  have hA : ∀ q : Nat, s.heap.size ≤ q → A q := fun q h => by rw [← hAe]; exact Or.inr h
  have hS : va_S A s.heap s.heap [] := va_S.rf
  have hl := lv_entry ([.ref h0, .int p1]) (n := 2) (Nat.le_of_ble_eq_true rfl)
  rw [lg_entry_eq]
  generalize (lg_sl ([.ref h0, .int p1]) ++ List.replicate (2 - (lg_sl ([.ref h0, .int p1])).length) Slot.unset).toArray = ls at hl ⊢
  have hl : lv_has ls 2 [(0, .ref h0), (1, .int p1)] := hl
  refine lv_iload_n hx hb dX1_isHandle_0 rfl (lv_at hl 1 rfl) ?_
  refine lv_if_lt (tgt := 13) hx hb dX1_isHandle_1 (by decide) (fun c_1 => ?_) (fun c_1 => ?_)
  · refine lv_iconst (v := 0) hx hb dX1_isHandle_13 (by decide) ?_
    have hqr : 0 = x_isH p1 := by simp only [x_isH, if_pos c_1]
    have hqs : σ = σ := rfl
    exact W.zret (v := 0) hx hb hr rfl (fun t ht hW => ⟨⟨0, σ, rfl, ⟨hqr, hqs⟩, by rw [ht]; exact hP, va_K.moved hW.alike hK, hD⟩, hS.F ht⟩) hS.2.2 dX1_isHandle_14
  · refine lv_iload_n hx hb dX1_isHandle_4 rfl (lv_at hl 1 rfl) ?_
    refine lv_iconst (v := 3) hx hb dX1_isHandle_5 (by decide) ?_
    refine lv_icmp_gt (tgt := 13) hx hb dX1_isHandle_6 (by decide) (fun c_6 => ?_) (fun c_6 => ?_)
    · refine lv_iconst (v := 0) hx hb dX1_isHandle_13 (by decide) ?_
      have hqr : 0 = x_isH p1 := by simp only [x_isH, if_neg c_1, if_pos c_6]
      have hqs : σ = σ := rfl
      exact W.zret (v := 0) hx hb hr rfl (fun t ht hW => ⟨⟨0, σ, rfl, ⟨hqr, hqs⟩, by rw [ht]; exact hP, va_K.moved hW.alike hK, hD⟩, hS.F ht⟩) hS.2.2 dX1_isHandle_14
    · refine lv_iconst (v := 1) hx hb dX1_isHandle_9 (by decide) ?_
      refine lv_goto (tgt := 14) hx hb dX1_isHandle_10 (by decide) ?_
      have hqr : 1 = x_isH p1 := by simp only [x_isH, if_neg c_1, if_neg c_6]
      have hqs : σ = σ := rfl
      exact W.zret (v := 1) hx hb hr rfl (fun t ht hW => ⟨⟨1, σ, rfl, ⟨hqr, hqs⟩, by rw [ht]; exact hP, va_K.moved hW.alike hK, hD⟩, hS.F ht⟩) hS.2.2 dX1_isHandle_14

set_option maxHeartbeats 4000000 in
theorem lpX1_forget_2 {p : Program} {l : Launch} {e : Env} {s : State} {m : MethodId} {below : List Frame} {meth : Method} {c : Code} {args : Array Value} {Q : State → Prop} {dC : Nat → ClassId} {dI : Nat → Nat → Nat} {A : Nat → Prop} {h0 : Nat} {b : Nat → Nat} {cA : Nat → ClassId} (hx : p.tables.exec = Jvm.exec) (hb : c.code = cX1_forget) (hml : c.maxLocals = 2) (hown : s.vm.findClass RX1 = some m.cls) (hts : ∀ w ∈ lw_all, w.before args s = true) (hA : ∀ q : Nat, s.heap.size ≤ q → A q) (hK : va_K (dC, dI) vwCl (tM cA) s) :
    ∀ (n i : Nat) (σ : XS), i + n = 4 → ∀ (H : Heap) (locs : List Loc), va_P (dC, dI) vwCl (wM h0 b cA σ) H → va_D A (wM h0 b cA σ) → va_S A s.heap H locs → ∀ (ls : Array Slot), lv_has ls 2 [(0, .ref h0), (1, .int (nI i))] →
    (∀ (H : Heap) (locs : List Loc), va_P (dC, dI) vwCl (wM h0 b cA (rsL 3 n i σ)) H → va_D A (wM h0 b cA (rsL 3 n i σ)) → va_S A s.heap H locs → ∀ (ls : Array Slot), lv_has ls 2 [] → W p l e (headSpec (ws_ yX1_forget cX1_forget 2 none) ({ frames := 0, cells := 0, slots := 0, locals := 0 })).room s m args below meth c H locs 0 0 Q (F0 m 20 ls [])) → W p l e (headSpec (ws_ yX1_forget cX1_forget 2 none) ({ frames := 0, cells := 0, slots := 0, locals := 0 })).room s m args below meth c H locs 0 0 Q (F0 m 2 ls []) := by
  intro n
  induction n with
  | zero =>
    intro i σ hin H locs hP hD hS ls hl hk
    obtain rfl : i = 4 := by omega
    refine lv_iload_n hx hb dX1_forget_2 rfl (lv_at hl 1 rfl) ?_
    refine lv_iconst (v := 4) hx hb dX1_forget_3 (by decide) ?_
    refine lv_icmp_ge (tgt := 20) hx hb dX1_forget_4 (by decide) (fun c_4 => ?_) (fun c_4 => ?_)
    · exact hk _ _ hP hD hS ls (lv_sub hl [] rfl)
    · exact absurd (by decide +kernel) c_4
  | succ n ih =>
    intro i σ hin H locs hP hD hS ls hl hk
    have hi : i < 4 := by omega
    refine lv_iload_n hx hb dX1_forget_2 rfl (lv_at hl 1 rfl) ?_
    refine lv_iconst (v := 4) hx hb dX1_forget_3 (by decide) ?_
    refine lv_icmp_ge (tgt := 20) hx hb dX1_forget_4 (by decide) (fun c_4 => ?_) (fun c_4 => ?_)
    · exact absurd c_4 (nI_ge (b := 4) (by omega) (by decide))
    · refine lv_aload_n hx hb dX1_forget_7 rfl (lv_at hl 0 rfl) ?_
      refine va_get (D := (dC, dI)) (ci := 1) (v := .ref (b 3)) (C := RX1) (T := TX1) (N := 7) hx hb hts in_X1 hown hK hP 0 rfl rfl 3 (by decide) (hts _ q211) (fun _ h9 => h9) rfl dX1_forget_8 ?_
      refine lv_iload_n hx hb dX1_forget_11 rfl (lv_at hl 1 rfl) ?_
      refine lv_iconst (v := (-1)) hx hb dX1_forget_12 (by decide) ?_
      refine xa_iast (D := (dC, dI)) (f := σ.2 3) hx hb hK hP hD hS 3 2 rfl rfl i rfl (by omega) (by decide) dX1_forget_13 (fun H locs hP hD hS => ?_)
      have hP : va_P (dC, dI) vwCl (wM h0 b cA (setA σ 3 i (-1))) H := hP
      have hD : va_D A (wM h0 b cA (setA σ 3 i (-1))) := hD
      refine lv_iinc (v := nI (i + 1)) (lv' := [(1, .int (nI (i + 1))), (0, .ref h0)]) hx hb dX1_forget_14 hl (k := 1) rfl (nI_1 _) (by decide) rfl (fun ls hl => ?_)
      refine lv_goto (tgt := 2) hx hb dX1_forget_17 (by decide) ?_
      rw [show rsL 3 (n + 1) i σ = rsL 3 n (i + 1) (setA σ 3 i (-1)) from by simp only [rsL, if_neg c_4]] at hk
      exact ih (i + 1)  (setA σ 3 i (-1)) (by omega)  _ _ hP hD hS ls (lv_sub hl [1, 0] rfl) hk

set_option maxHeartbeats 4000000 in
theorem metX1_forget (l : Launch) (dC : Nat → ClassId) (dI : Nat → Nat → Nat) (h0 : Nat) (b : Nat → Nat) (cA : Nat → ClassId) (sz : Nat) (σ : XS) : MetV l yX1_forget (ws_ yX1_forget cX1_forget 2 none) ({ frames := 0, cells := 0, slots := 0, locals := 0 }) (dC, dI) (tM cA) (wM h0 b cA) h0 [] sz σ (rsL 3 4 0 σ) := by
  refine Met.ofW (cc := cX1_forget) (maxL := 2) (ret := none) (by decide) rfl ?_
  intro p e s m args below meth c s₁ B hml hv
  obtain ⟨rfl, hsz, hP, hK, hD0⟩ := hv
  have hx := B.exec
  have hb := B.bytes
  have hr := B.returns
  have hts := atoms_spec (ws := (ws_ yX1_forget cX1_forget 2 none)) B.pre
  have hts : ∀ w ∈ lw_all, w.before _ s = true := fun w h => hts w (List.mem_cons_of_mem _ h)
  have hown : s.vm.findClass RX1 = some m.cls := findClass_of_methodNamed B.named
  have hlocks := B.notSynchronized
  subst hsz
  have hD := hD0.self (sz := s.heap.size)
  generalize hAe : va_A (wM h0 b cA σ) s.heap.size = A at hD ⊢
  have hA : ∀ q : Nat, s.heap.size ≤ q → A q := fun q h => by rw [← hAe]; exact Or.inr h
  have hS : va_S A s.heap s.heap [] := va_S.rf
  have hl := lv_entry ([.ref h0]) (n := 2) (Nat.le_of_ble_eq_true rfl)
  rw [lg_entry_eq]
  generalize (lg_sl ([.ref h0]) ++ List.replicate (2 - (lg_sl ([.ref h0])).length) Slot.unset).toArray = ls at hl ⊢
  have hl : lv_has ls 2 [(0, .ref h0)] := hl
  refine lv_iconst (v := 0) hx hb dX1_forget_0 (by decide) ?_
  refine lv_istore_n (lv' := [(1, .int 0), (0, .ref h0)]) hx hb dX1_forget_1 rfl hl (by decide) rfl (fun ls hl => ?_)
  refine lpX1_forget_2 hx hb hml hown hts hA hK  4 0  σ rfl  _ _ hP hD hS ls (lv_sub hl [1, 0] rfl) (fun H locs hP hD hS ls hl => ?_)
  have hqs : (rsL 3 4 0 σ) = rsL 3 4 0 σ := by simp only []
  exact W.vret hx hb hr (fun t ht hW => ⟨⟨(rsL 3 4 0 σ), rfl, hqs, by rw [ht]; exact hP, va_K.moved hW.alike hK, hD⟩, hS.F ht⟩) hS.2.2 dX1_forget_20

set_option maxHeartbeats 4000000 in
theorem metX1_bit (l : Launch) (dC : Nat → ClassId) (dI : Nat → Nat → Nat) (h0 : Nat) (b : Nat → Nat) (cA : Nat → ClassId) (sz : Nat) (σ : XS) (p1 : Int32) : MetI l yX1_bit (ws_ yX1_bit cX1_bit 2 (some .int)) ({ frames := 0, cells := 0, slots := 0, locals := 0 }) (dC, dI) (tM cA) (wM h0 b cA) h0 [.int p1] sz σ (bitO p1) σ := by
  refine Met.ofW (cc := cX1_bit) (maxL := 2) (ret := (some .int)) (by decide) rfl ?_
  intro p e s m args below meth c s₁ B hml hv
  obtain ⟨rfl, hsz, hP, hK, hD0⟩ := hv
  have hx := B.exec
  have hb := B.bytes
  have hr := B.returns
  have hts := atoms_spec (ws := (ws_ yX1_bit cX1_bit 2 (some .int))) B.pre
  have hts : ∀ w ∈ lw_all, w.before _ s = true := fun w h => hts w (List.mem_cons_of_mem _ h)
  have hown : s.vm.findClass RX1 = some m.cls := findClass_of_methodNamed B.named
  have hlocks := B.notSynchronized
  subst hsz
  have hD := hD0.self (sz := s.heap.size)
  generalize hAe : va_A (wM h0 b cA σ) s.heap.size = A at hD ⊢
  have hA : ∀ q : Nat, s.heap.size ≤ q → A q := fun q h => by rw [← hAe]; exact Or.inr h
  have hS : va_S A s.heap s.heap [] := va_S.rf
  have hl := lv_entry ([.ref h0, .int p1]) (n := 2) (Nat.le_of_ble_eq_true rfl)
  rw [lg_entry_eq]
  generalize (lg_sl ([.ref h0, .int p1]) ++ List.replicate (2 - (lg_sl ([.ref h0, .int p1])).length) Slot.unset).toArray = ls at hl ⊢
  have hl : lv_has ls 2 [(0, .ref h0), (1, .int p1)] := hl
  refine lv_iload_n hx hb dX1_bit_0 rfl (lv_at hl 1 rfl) ?_
  refine lv_if_ge (tgt := 8) hx hb dX1_bit_1 (by decide) (fun c_1 => ?_) (fun c_1 => ?_)
  · refine lv_iconst (v := 1) hx hb dX1_bit_8 (by decide) ?_
    refine lv_iload_n hx hb dX1_bit_9 rfl (lv_at hl 1 rfl) ?_
    refine lv_ishl hx hb dX1_bit_10 ?_
    have hqr : (1 : Int32) <<< (p1 &&& 31) = bitO p1 := by simp only [bitO, if_pos c_1]
    have hqs : σ = σ := rfl
    exact W.iret (v := (1 : Int32) <<< (p1 &&& 31)) hx hb hr (fun t ht hW => ⟨⟨(1 : Int32) <<< (p1 &&& 31), σ, rfl, ⟨hqr, hqs⟩, by rw [ht]; exact hP, va_K.moved hW.alike hK, hD⟩, hS.F ht⟩) hS.2.2 dX1_bit_11
  · refine lv_iconst (v := 0) hx hb dX1_bit_4 (by decide) ?_
    refine lv_goto (tgt := 11) hx hb dX1_bit_5 (by decide) ?_
    have hqr : 0 = bitO p1 := by simp only [bitO, if_neg c_1]
    have hqs : σ = σ := rfl
    exact W.iret (v := 0) hx hb hr (fun t ht hW => ⟨⟨0, σ, rfl, ⟨hqr, hqs⟩, by rw [ht]; exact hP, va_K.moved hW.alike hK, hD⟩, hS.F ht⟩) hS.2.2 dX1_bit_11

set_option maxHeartbeats 4000000 in
theorem metX1_leads (l : Launch) (dC : Nat → ClassId) (dI : Nat → Nat → Nat) (h0 : Nat) (b : Nat → Nat) (cA : Nat → ClassId) (sz : Nat) (σ : XS) (p1 : Int32) : MetI l yX1_leads (ws_ yX1_leads cX1_leads 2 (some .int)) ({ frames := 0, cells := 0, slots := 0, locals := 0 }) (dC, dI) (tM cA) (wM h0 b cA) h0 [.int p1] sz σ (leads p1) σ := by
  refine Met.ofW (cc := cX1_leads) (maxL := 2) (ret := (some .int)) (by decide) rfl ?_
  intro p e s m args below meth c s₁ B hml hv
  obtain ⟨rfl, hsz, hP, hK, hD0⟩ := hv
  have hx := B.exec
  have hb := B.bytes
  have hr := B.returns
  have hts := atoms_spec (ws := (ws_ yX1_leads cX1_leads 2 (some .int))) B.pre
  have hts : ∀ w ∈ lw_all, w.before _ s = true := fun w h => hts w (List.mem_cons_of_mem _ h)
  have hown : s.vm.findClass RX1 = some m.cls := findClass_of_methodNamed B.named
  have hlocks := B.notSynchronized
  subst hsz
  have hD := hD0.self (sz := s.heap.size)
  generalize hAe : va_A (wM h0 b cA σ) s.heap.size = A at hD ⊢
  have hA : ∀ q : Nat, s.heap.size ≤ q → A q := fun q h => by rw [← hAe]; exact Or.inr h
  have hS : va_S A s.heap s.heap [] := va_S.rf
  have hl := lv_entry ([.ref h0, .int p1]) (n := 2) (Nat.le_of_ble_eq_true rfl)
  rw [lg_entry_eq]
  generalize (lg_sl ([.ref h0, .int p1]) ++ List.replicate (2 - (lg_sl ([.ref h0, .int p1])).length) Slot.unset).toArray = ls at hl ⊢
  have hl : lv_has ls 2 [(0, .ref h0), (1, .int p1)] := hl
  refine lv_iload_n hx hb dX1_leads_0 rfl (lv_at hl 1 rfl) ?_
  refine lv_if_ge (tgt := 8) hx hb dX1_leads_1 (by decide) (fun c_1 => ?_) (fun c_1 => ?_)
  · refine lv_iconst (v := 1) hx hb dX1_leads_8 (by decide) ?_
    have hqr : 1 = leads p1 := by simp only [leads, if_pos c_1]
    have hqs : σ = σ := rfl
    exact W.iret (v := 1) hx hb hr (fun t ht hW => ⟨⟨1, σ, rfl, ⟨hqr, hqs⟩, by rw [ht]; exact hP, va_K.moved hW.alike hK, hD⟩, hS.F ht⟩) hS.2.2 dX1_leads_9
  · refine lv_iconst (v := 0) hx hb dX1_leads_4 (by decide) ?_
    refine lv_goto (tgt := 9) hx hb dX1_leads_5 (by decide) ?_
    have hqr : 0 = leads p1 := by simp only [leads, if_neg c_1]
    have hqs : σ = σ := rfl
    exact W.iret (v := 0) hx hb hr (fun t ht hW => ⟨⟨0, σ, rfl, ⟨hqr, hqs⟩, by rw [ht]; exact hP, va_K.moved hW.alike hK, hD⟩, hS.F ht⟩) hS.2.2 dX1_leads_9

set_option maxHeartbeats 4000000 in
theorem metX1_in (l : Launch) (dC : Nat → ClassId) (dI : Nat → Nat → Nat) (h0 : Nat) (b : Nat → Nat) (cA : Nat → ClassId) (sz : Nat) (σ : XS) (p1 : Int32) (j : Nat) : MetI l yX1_in (ws_ yX1_in cX1_in 3 (some .boolean)) ({ frames := 0, cells := 0, slots := 0, locals := 0 }) (dC, dI) (tM cA) (wM h0 b cA) h0 [.int p1, .int (nI j)] sz σ (m_in p1 j) σ := by
  refine Met.ofW (cc := cX1_in) (maxL := 3) (ret := (some .boolean)) (by decide) rfl ?_
  intro p e s m args below meth c s₁ B hml hv
  obtain ⟨rfl, hsz, hP, hK, hD0⟩ := hv
  have hx := B.exec
  have hb := B.bytes
  have hr := B.returns
  have hts := atoms_spec (ws := (ws_ yX1_in cX1_in 3 (some .boolean))) B.pre
  have hts : ∀ w ∈ lw_all, w.before _ s = true := fun w h => hts w (List.mem_cons_of_mem _ h)
  have hown : s.vm.findClass RX1 = some m.cls := findClass_of_methodNamed B.named
  have hlocks := B.notSynchronized
  subst hsz
  have hD := hD0.self (sz := s.heap.size)
  generalize hAe : va_A (wM h0 b cA σ) s.heap.size = A at hD ⊢
  have hA : ∀ q : Nat, s.heap.size ≤ q → A q := fun q h => by rw [← hAe]; exact Or.inr h
  have hS : va_S A s.heap s.heap [] := va_S.rf
  have hl := lv_entry ([.ref h0, .int p1, .int (nI j)]) (n := 3) (Nat.le_of_ble_eq_true rfl)
  rw [lg_entry_eq]
  generalize (lg_sl ([.ref h0, .int p1, .int (nI j)]) ++ List.replicate (3 - (lg_sl ([.ref h0, .int p1, .int (nI j)])).length) Slot.unset).toArray = ls at hl ⊢
  have hl : lv_has ls 3 [(0, .ref h0), (1, .int p1), (2, .int (nI j))] := hl
  refine lv_iload_n hx hb dX1_in_0 rfl (lv_at hl 1 rfl) ?_
  refine lv_iload_n hx hb dX1_in_1 rfl (lv_at hl 2 rfl) ?_
  refine lv_ishr hx hb dX1_in_2 ?_
  refine lv_iconst (v := 1) hx hb dX1_in_3 (by decide) ?_
  refine lv_iand hx hb dX1_in_4 ?_
  refine lv_iconst (v := 1) hx hb dX1_in_5 (by decide) ?_
  refine lv_icmp_ne (tgt := 13) hx hb dX1_in_6 (by decide) (fun c_6 => ?_) (fun c_6 => ?_)
  · refine lv_iconst (v := 0) hx hb dX1_in_13 (by decide) ?_
    have hqr : 0 = m_in p1 j := by simp only [m_in, btI, if_neg c_6]
    have hqs : σ = σ := rfl
    exact W.zret (v := 0) hx hb hr rfl (fun t ht hW => ⟨⟨0, σ, rfl, ⟨hqr, hqs⟩, by rw [ht]; exact hP, va_K.moved hW.alike hK, hD⟩, hS.F ht⟩) hS.2.2 dX1_in_14
  · refine lv_iconst (v := 1) hx hb dX1_in_9 (by decide) ?_
    refine lv_goto (tgt := 14) hx hb dX1_in_10 (by decide) ?_
    have hqr : 1 = m_in p1 j := by simp only [m_in, btI, if_pos c_6]
    have hqs : σ = σ := rfl
    exact W.zret (v := 1) hx hb hr rfl (fun t ht hW => ⟨⟨1, σ, rfl, ⟨hqr, hqs⟩, by rw [ht]; exact hP, va_K.moved hW.alike hK, hD⟩, hS.F ht⟩) hS.2.2 dX1_in_14

set_option maxHeartbeats 4000000 in
theorem lpX1_spread_15 {p : Program} {l : Launch} {e : Env} {s : State} {m : MethodId} {below : List Frame} {meth : Method} {c : Code} {args : Array Value} {Q : State → Prop} {dC : Nat → ClassId} {dI : Nat → Nat → Nat} {A : Nat → Prop} {h0 : Nat} {b : Nat → Nat} {cA : Nat → ClassId} (hx : p.tables.exec = Jvm.exec) (hb : c.code = cX1_spread) (hml : c.maxLocals = 7) (hown : s.vm.findClass RX1 = some m.cls) (hts : ∀ w ∈ lw_all, w.before args s = true) (hA : ∀ q : Nat, s.heap.size ≤ q → A q) (hK : va_K (dC, dI) vwCl (tM cA) s) (p2 : Int32) (r : Nat) :
    ∀ (n i : Nat) (t : Int32) (σ : XS), i + n = 24 → ∀ (H : Heap) (locs : List Loc), va_P (dC, dI) vwCl (wM h0 b cA σ) H → va_D A (wM h0 b cA σ) → va_S A s.heap H locs → ∀ (ls : Array Slot), lv_has ls 7 [(0, .ref h0), (2, .int p2), (3, .int t), (4, .int (nI r)), (5, .int (nI i))] →
    (∀ (H : Heap) (locs : List Loc), va_P (dC, dI) vwCl (wM h0 b cA σ) H → va_D A (wM h0 b cA σ) → va_S A s.heap H locs → ∀ (ls : Array Slot), lv_has ls 7 [(0, .ref h0), (2, .int p2), (3, .int (sprI (m_lk σ p2) n i t)), (4, .int (nI r))] → W p l e (headSpec (ws_ yX1_spread cX1_spread 7 (some .int)) ({ frames := 1, cells := 0, slots := 0, locals := 22 })).room s m args below meth c H locs 0 0 Q (F0 m 75 ls [])) → W p l e (headSpec (ws_ yX1_spread cX1_spread 7 (some .int)) ({ frames := 1, cells := 0, slots := 0, locals := 22 })).room s m args below meth c H locs 0 0 Q (F0 m 15 ls []) := by
  intro n
  induction n with
  | zero =>
    intro i t σ hin H locs hP hD hS ls hl hk
    obtain rfl : i = 24 := by omega
    refine lv_iload hx hb dX1_spread_15 (lv_at hl 4 rfl) ?_
    refine lv_bipush (v := 24) hx hb dX1_spread_17 (by decide) ?_
    refine lv_icmp_ge (tgt := 75) hx hb dX1_spread_19 (by decide) (fun c_19 => ?_) (fun c_19 => ?_)
    · exact hk _ _ hP hD hS ls (lv_sub hl [0, 1, 2, 3] rfl)
    · exact absurd (by decide +kernel) c_19
  | succ n ih =>
    intro i t σ hin H locs hP hD hS ls hl hk
    have hi : i < 24 := by omega
    refine lv_iload hx hb dX1_spread_15 (lv_at hl 4 rfl) ?_
    refine lv_bipush (v := 24) hx hb dX1_spread_17 (by decide) ?_
    refine lv_icmp_ge (tgt := 75) hx hb dX1_spread_19 (by decide) (fun c_19 => ?_) (fun c_19 => ?_)
    · exact absurd c_19 (nI_ge (b := 24) (by omega) (by decide))
    · refine lv_iload_n hx hb dX1_spread_22 rfl (lv_at hl 1 rfl) ?_
      refine lv_if_eq (tgt := 36) hx hb dX1_spread_23 (by decide) (fun c_23 => ?_) (fun c_23 => ?_)
      · refine lv_aload_n hx hb dX1_spread_36 rfl (lv_at hl 0 rfl) ?_
        refine va_get (D := (dC, dI)) (ci := 1) (v := .ref (b 5)) (C := RX1) (T := TX1) (N := 7) hx hb hts in_X1 hown hK hP 0 rfl rfl 5 (by decide) (hts _ q213) (fun _ h9 => h9) rfl dX1_spread_37 ?_
        refine lv_iload hx hb dX1_spread_40 (lv_at hl 4 rfl) ?_
        refine xa_iald (D := (dC, dI)) (f := σ.2 5) hx hb hK hP 5 4 rfl rfl i rfl (by omega) (by decide) dX1_spread_42 ?_
        refine lv_tope (y := m_lk σ p2 i) (by simp only [m_lk, if_neg c_19, if_pos c_23]) ?_
        refine lv_istore (lv' := [(6, .int (m_lk σ p2 i)), (0, .ref h0), (2, .int p2), (3, .int t), (4, .int (nI r)), (5, .int (nI i))]) hx hb dX1_spread_43 hl (by decide) rfl (fun ls hl => ?_)
        refine lv_aload_n hx hb dX1_spread_45 rfl (lv_at hl 1 rfl) ?_
        refine lv_iload_n hx hb dX1_spread_46 rfl (lv_at hl 3 rfl) ?_
        refine lv_iload hx hb dX1_spread_47 (lv_at hl 5 rfl) ?_
        refine lv_iconst (v := 2) hx hb dX1_spread_49 (by decide) ?_
        refine lv_idiv hx hb dX1_spread_50 (by decide) ?_
        refine lv_tope (pk_div (a := i) (d := 2) (by omega) (by decide) (by decide)) ?_
        refine ca_i (D := (dC, dI)) (wf := wM h0 b cA) hx hb hml hown hts (metX1_in l dC dI h0 b cA _ σ t (i / 2)) (cwV 2 hts (lw_V q250 q252 qs19 q27 q253) rfl rfl rfl (by decide +kernel) ⟨Nat.le_of_ble_eq_true rfl, Nat.le_of_ble_eq_true rfl⟩) hK hP hD hS hA 0 1 rfl rfl rfl hl.1 rfl (lv_room (Nat.le_of_ble_eq_true rfl)) dX1_spread_51 ⟨Nat.le_of_ble_eq_true rfl, Nat.le_of_ble_eq_true rfl⟩ (fun H locs hP hD hS => ?_)
        refine lv_if_eq (tgt := 69) hx hb dX1_spread_54 (by decide) (fun c_54 => ?_) (fun c_54 => ?_)
        · refine lv_iinc (v := nI (i + 1)) (lv' := [(5, .int (nI (i + 1))), (6, .int (m_lk σ p2 i)), (0, .ref h0), (2, .int p2), (3, .int t), (4, .int (nI r))]) hx hb dX1_spread_69 hl (k := 5) rfl (nI_1 _) (by decide) rfl (fun ls hl => ?_)
          refine lv_goto (tgt := 15) hx hb dX1_spread_72 (by decide) ?_
          rw [show sprI (m_lk σ p2) (n + 1) i t = sprI (m_lk σ p2) n (i + 1) t from by simp only [sprI, orL, if_neg c_19, if_pos c_23, if_pos c_54]] at hk
          exact ih (i + 1) t σ (by omega)  _ _ hP hD hS ls (lv_sub hl [2, 3, 4, 5, 0] rfl) hk
        · refine lv_iload hx hb dX1_spread_57 (lv_at hl 0 rfl) ?_
          refine lv_if_lt (tgt := 69) hx hb dX1_spread_59 (by decide) (fun c_59 => ?_) (fun c_59 => ?_)
          · refine lv_iinc (v := nI (i + 1)) (lv' := [(5, .int (nI (i + 1))), (6, .int (m_lk σ p2 i)), (0, .ref h0), (2, .int p2), (3, .int t), (4, .int (nI r))]) hx hb dX1_spread_69 hl (k := 5) rfl (nI_1 _) (by decide) rfl (fun ls hl => ?_)
            refine lv_goto (tgt := 15) hx hb dX1_spread_72 (by decide) ?_
            rw [show sprI (m_lk σ p2) (n + 1) i t = sprI (m_lk σ p2) n (i + 1) t from by simp only [sprI, orL, if_neg c_19, if_pos c_23, if_neg c_54, if_pos c_59]] at hk
            exact ih (i + 1) t σ (by omega)  _ _ hP hD hS ls (lv_sub hl [2, 3, 4, 5, 0] rfl) hk
          · refine lv_iload_n hx hb dX1_spread_62 rfl (lv_at hl 3 rfl) ?_
            refine lv_iconst (v := 1) hx hb dX1_spread_63 (by decide) ?_
            refine lv_iload hx hb dX1_spread_64 (lv_at hl 0 rfl) ?_
            refine lv_ishl hx hb dX1_spread_66 ?_
            refine lv_ior hx hb dX1_spread_67 ?_
            refine lv_istore_n (lv' := [(3, .int (t ||| ((1 : Int32) <<< ((m_lk σ p2 i) &&& 31)))), (6, .int (m_lk σ p2 i)), (0, .ref h0), (2, .int p2), (4, .int (nI r)), (5, .int (nI i))]) hx hb dX1_spread_68 rfl hl (by decide) rfl (fun ls hl => ?_)
            refine lv_iinc (v := nI (i + 1)) (lv' := [(5, .int (nI (i + 1))), (3, .int (t ||| ((1 : Int32) <<< ((m_lk σ p2 i) &&& 31)))), (6, .int (m_lk σ p2 i)), (0, .ref h0), (2, .int p2), (4, .int (nI r))]) hx hb dX1_spread_69 hl (k := 5) rfl (nI_1 _) (by decide) rfl (fun ls hl => ?_)
            refine lv_goto (tgt := 15) hx hb dX1_spread_72 (by decide) ?_
            rw [show sprI (m_lk σ p2) (n + 1) i t = sprI (m_lk σ p2) n (i + 1) (t ||| ((1 : Int32) <<< ((m_lk σ p2 i) &&& 31))) from by simp only [sprI, orL, if_neg c_19, if_pos c_23, if_neg c_54, if_neg c_59]] at hk
            exact ih (i + 1) (t ||| ((1 : Int32) <<< ((m_lk σ p2 i) &&& 31))) σ (by omega)  _ _ hP hD hS ls (lv_sub hl [3, 4, 1, 5, 0] rfl) hk
      · refine lv_aload_n hx hb dX1_spread_26 rfl (lv_at hl 0 rfl) ?_
        refine va_get (D := (dC, dI)) (ci := 1) (v := .ref (b 1)) (C := RX1) (T := TX1) (N := 7) hx hb hts in_X1 hown hK hP 0 rfl rfl 1 (by decide) (hts _ q209) (fun _ h9 => h9) rfl dX1_spread_27 ?_
        refine lv_iload hx hb dX1_spread_30 (lv_at hl 4 rfl) ?_
        refine xa_iald (D := (dC, dI)) (f := σ.2 1) hx hb hK hP 2 1 rfl rfl i rfl (by omega) (by decide) dX1_spread_32 ?_
        refine lv_goto (tgt := 43) hx hb dX1_spread_33 (by decide) ?_
        refine lv_tope (y := m_lk σ p2 i) (by simp only [m_lk, if_neg c_19, if_neg c_23]) ?_
        refine lv_istore (lv' := [(6, .int (m_lk σ p2 i)), (0, .ref h0), (2, .int p2), (3, .int t), (4, .int (nI r)), (5, .int (nI i))]) hx hb dX1_spread_43 hl (by decide) rfl (fun ls hl => ?_)
        refine lv_aload_n hx hb dX1_spread_45 rfl (lv_at hl 1 rfl) ?_
        refine lv_iload_n hx hb dX1_spread_46 rfl (lv_at hl 3 rfl) ?_
        refine lv_iload hx hb dX1_spread_47 (lv_at hl 5 rfl) ?_
        refine lv_iconst (v := 2) hx hb dX1_spread_49 (by decide) ?_
        refine lv_idiv hx hb dX1_spread_50 (by decide) ?_
        refine lv_tope (pk_div (a := i) (d := 2) (by omega) (by decide) (by decide)) ?_
        refine ca_i (D := (dC, dI)) (wf := wM h0 b cA) hx hb hml hown hts (metX1_in l dC dI h0 b cA _ σ t (i / 2)) (cwV 2 hts (lw_V q250 q252 qs19 q27 q253) rfl rfl rfl (by decide +kernel) ⟨Nat.le_of_ble_eq_true rfl, Nat.le_of_ble_eq_true rfl⟩) hK hP hD hS hA 0 1 rfl rfl rfl hl.1 rfl (lv_room (Nat.le_of_ble_eq_true rfl)) dX1_spread_51 ⟨Nat.le_of_ble_eq_true rfl, Nat.le_of_ble_eq_true rfl⟩ (fun H locs hP hD hS => ?_)
        refine lv_if_eq (tgt := 69) hx hb dX1_spread_54 (by decide) (fun c_54 => ?_) (fun c_54 => ?_)
        · refine lv_iinc (v := nI (i + 1)) (lv' := [(5, .int (nI (i + 1))), (6, .int (m_lk σ p2 i)), (0, .ref h0), (2, .int p2), (3, .int t), (4, .int (nI r))]) hx hb dX1_spread_69 hl (k := 5) rfl (nI_1 _) (by decide) rfl (fun ls hl => ?_)
          refine lv_goto (tgt := 15) hx hb dX1_spread_72 (by decide) ?_
          rw [show sprI (m_lk σ p2) (n + 1) i t = sprI (m_lk σ p2) n (i + 1) t from by simp only [sprI, orL, if_neg c_19, if_neg c_23, if_pos c_54]] at hk
          exact ih (i + 1) t σ (by omega)  _ _ hP hD hS ls (lv_sub hl [2, 3, 4, 5, 0] rfl) hk
        · refine lv_iload hx hb dX1_spread_57 (lv_at hl 0 rfl) ?_
          refine lv_if_lt (tgt := 69) hx hb dX1_spread_59 (by decide) (fun c_59 => ?_) (fun c_59 => ?_)
          · refine lv_iinc (v := nI (i + 1)) (lv' := [(5, .int (nI (i + 1))), (6, .int (m_lk σ p2 i)), (0, .ref h0), (2, .int p2), (3, .int t), (4, .int (nI r))]) hx hb dX1_spread_69 hl (k := 5) rfl (nI_1 _) (by decide) rfl (fun ls hl => ?_)
            refine lv_goto (tgt := 15) hx hb dX1_spread_72 (by decide) ?_
            rw [show sprI (m_lk σ p2) (n + 1) i t = sprI (m_lk σ p2) n (i + 1) t from by simp only [sprI, orL, if_neg c_19, if_neg c_23, if_neg c_54, if_pos c_59]] at hk
            exact ih (i + 1) t σ (by omega)  _ _ hP hD hS ls (lv_sub hl [2, 3, 4, 5, 0] rfl) hk
          · refine lv_iload_n hx hb dX1_spread_62 rfl (lv_at hl 3 rfl) ?_
            refine lv_iconst (v := 1) hx hb dX1_spread_63 (by decide) ?_
            refine lv_iload hx hb dX1_spread_64 (lv_at hl 0 rfl) ?_
            refine lv_ishl hx hb dX1_spread_66 ?_
            refine lv_ior hx hb dX1_spread_67 ?_
            refine lv_istore_n (lv' := [(3, .int (t ||| ((1 : Int32) <<< ((m_lk σ p2 i) &&& 31)))), (6, .int (m_lk σ p2 i)), (0, .ref h0), (2, .int p2), (4, .int (nI r)), (5, .int (nI i))]) hx hb dX1_spread_68 rfl hl (by decide) rfl (fun ls hl => ?_)
            refine lv_iinc (v := nI (i + 1)) (lv' := [(5, .int (nI (i + 1))), (3, .int (t ||| ((1 : Int32) <<< ((m_lk σ p2 i) &&& 31)))), (6, .int (m_lk σ p2 i)), (0, .ref h0), (2, .int p2), (4, .int (nI r))]) hx hb dX1_spread_69 hl (k := 5) rfl (nI_1 _) (by decide) rfl (fun ls hl => ?_)
            refine lv_goto (tgt := 15) hx hb dX1_spread_72 (by decide) ?_
            rw [show sprI (m_lk σ p2) (n + 1) i t = sprI (m_lk σ p2) n (i + 1) (t ||| ((1 : Int32) <<< ((m_lk σ p2 i) &&& 31))) from by simp only [sprI, orL, if_neg c_19, if_neg c_23, if_neg c_54, if_neg c_59]] at hk
            exact ih (i + 1) (t ||| ((1 : Int32) <<< ((m_lk σ p2 i) &&& 31))) σ (by omega)  _ _ hP hD hS ls (lv_sub hl [3, 4, 1, 5, 0] rfl) hk

set_option maxHeartbeats 4000000 in
theorem lpX1_spread_5 {p : Program} {l : Launch} {e : Env} {s : State} {m : MethodId} {below : List Frame} {meth : Method} {c : Code} {args : Array Value} {Q : State → Prop} {dC : Nat → ClassId} {dI : Nat → Nat → Nat} {A : Nat → Prop} {h0 : Nat} {b : Nat → Nat} {cA : Nat → ClassId} (hx : p.tables.exec = Jvm.exec) (hb : c.code = cX1_spread) (hml : c.maxLocals = 7) (hown : s.vm.findClass RX1 = some m.cls) (hts : ∀ w ∈ lw_all, w.before args s = true) (hA : ∀ q : Nat, s.heap.size ≤ q → A q) (hK : va_K (dC, dI) vwCl (tM cA) s) (p2 : Int32) :
    ∀ (n i : Nat) (t : Int32) (σ : XS), i + n = 12 → ∀ (H : Heap) (locs : List Loc), va_P (dC, dI) vwCl (wM h0 b cA σ) H → va_D A (wM h0 b cA σ) → va_S A s.heap H locs → ∀ (ls : Array Slot), lv_has ls 7 [(0, .ref h0), (2, .int p2), (3, .int t), (4, .int (nI i))] →
    (∀ (H : Heap) (locs : List Loc), va_P (dC, dI) vwCl (wM h0 b cA σ) H → va_D A (wM h0 b cA σ) → va_S A s.heap H locs → ∀ (ls : Array Slot), lv_has ls 7 [(3, .int (sprL (m_lk σ p2) n t))] → W p l e (headSpec (ws_ yX1_spread cX1_spread 7 (some .int)) ({ frames := 1, cells := 0, slots := 0, locals := 22 })).room s m args below meth c H locs 0 0 Q (F0 m 81 ls [])) → W p l e (headSpec (ws_ yX1_spread cX1_spread 7 (some .int)) ({ frames := 1, cells := 0, slots := 0, locals := 22 })).room s m args below meth c H locs 0 0 Q (F0 m 5 ls []) := by
  intro n
  induction n with
  | zero =>
    intro i t σ hin H locs hP hD hS ls hl hk
    obtain rfl : i = 12 := by omega
    refine lv_iload hx hb dX1_spread_5 (lv_at hl 3 rfl) ?_
    refine lv_bipush (v := 12) hx hb dX1_spread_7 (by decide) ?_
    refine lv_icmp_ge (tgt := 81) hx hb dX1_spread_9 (by decide) (fun c_9 => ?_) (fun c_9 => ?_)
    · exact hk _ _ hP hD hS ls (lv_sub hl [2] rfl)
    · exact absurd (by decide +kernel) c_9
  | succ n ih =>
    intro i t σ hin H locs hP hD hS ls hl hk
    have hi : i < 12 := by omega
    refine lv_iload hx hb dX1_spread_5 (lv_at hl 3 rfl) ?_
    refine lv_bipush (v := 12) hx hb dX1_spread_7 (by decide) ?_
    refine lv_icmp_ge (tgt := 81) hx hb dX1_spread_9 (by decide) (fun c_9 => ?_) (fun c_9 => ?_)
    · exact absurd c_9 (nI_ge (b := 12) (by omega) (by decide))
    · refine lv_iconst (v := 0) hx hb dX1_spread_12 (by decide) ?_
      refine lv_istore (lv' := [(5, .int 0), (0, .ref h0), (2, .int p2), (3, .int t), (4, .int (nI i))]) hx hb dX1_spread_13 hl (by decide) rfl (fun ls hl => ?_)
      refine lpX1_spread_15 hx hb hml hown hts hA hK p2 i 24 0 t σ rfl  _ _ hP hD hS ls (lv_sub hl [1, 2, 3, 4, 0] rfl) (fun H locs hP hD hS ls hl => ?_)
      refine lv_iinc (v := nI (i + 1)) (lv' := [(4, .int (nI (i + 1))), (0, .ref h0), (2, .int p2), (3, .int (sprI (m_lk σ p2) 24 0 t))]) hx hb dX1_spread_75 hl (k := 3) rfl (nI_1 _) (by decide) rfl (fun ls hl => ?_)
      refine lv_goto (tgt := 5) hx hb dX1_spread_78 (by decide) ?_
      rw [show sprL (m_lk σ p2) (n + 1) t = sprL (m_lk σ p2) n (sprI (m_lk σ p2) 24 0 t) from by simp only [sprL, if_neg c_9]] at hk
      exact ih (i + 1) (sprI (m_lk σ p2) 24 0 t) σ (by omega)  _ _ hP hD hS ls (lv_sub hl [1, 2, 3, 0] rfl) hk

set_option maxHeartbeats 4000000 in
theorem metX1_spread (l : Launch) (dC : Nat → ClassId) (dI : Nat → Nat → Nat) (h0 : Nat) (b : Nat → Nat) (cA : Nat → ClassId) (sz : Nat) (σ : XS) (p1 : Int32) (p2 : Int32) : MetI l yX1_spread (ws_ yX1_spread cX1_spread 7 (some .int)) ({ frames := 1, cells := 0, slots := 0, locals := 22 }) (dC, dI) (tM cA) (wM h0 b cA) h0 [.int p1, .int p2] sz σ (m_spread σ p1 p2) σ := by
  refine Met.ofW (cc := cX1_spread) (maxL := 7) (ret := (some .int)) (by decide) rfl ?_
  intro p e s m args below meth c s₁ B hml hv
  obtain ⟨rfl, hsz, hP, hK, hD0⟩ := hv
  have hx := B.exec
  have hb := B.bytes
  have hr := B.returns
  have hts := atoms_spec (ws := (ws_ yX1_spread cX1_spread 7 (some .int))) B.pre
  have hts : ∀ w ∈ lw_all, w.before _ s = true := fun w h => hts w (List.mem_cons_of_mem _ h)
  have hown : s.vm.findClass RX1 = some m.cls := findClass_of_methodNamed B.named
  have hlocks := B.notSynchronized
  subst hsz
  have hD := hD0.self (sz := s.heap.size)
  generalize hAe : va_A (wM h0 b cA σ) s.heap.size = A at hD ⊢
  have hA : ∀ q : Nat, s.heap.size ≤ q → A q := fun q h => by rw [← hAe]; exact Or.inr h
  have hS : va_S A s.heap s.heap [] := va_S.rf
  have hl := lv_entry ([.ref h0, .int p1, .int p2]) (n := 7) (Nat.le_of_ble_eq_true rfl)
  rw [lg_entry_eq]
  generalize (lg_sl ([.ref h0, .int p1, .int p2]) ++ List.replicate (7 - (lg_sl ([.ref h0, .int p1, .int p2])).length) Slot.unset).toArray = ls at hl ⊢
  have hl : lv_has ls 7 [(0, .ref h0), (1, .int p1), (2, .int p2)] := hl
  refine lv_iload_n hx hb dX1_spread_0 rfl (lv_at hl 1 rfl) ?_
  refine lv_istore_n (lv' := [(3, .int p1), (0, .ref h0), (1, .int p1), (2, .int p2)]) hx hb dX1_spread_1 rfl hl (by decide) rfl (fun ls hl => ?_)
  refine lv_iconst (v := 0) hx hb dX1_spread_2 (by decide) ?_
  refine lv_istore (lv' := [(4, .int 0), (3, .int p1), (0, .ref h0), (1, .int p1), (2, .int p2)]) hx hb dX1_spread_3 hl (by decide) rfl (fun ls hl => ?_)
  refine lpX1_spread_5 hx hb hml hown hts hA hK p2 12 0 p1 σ rfl  _ _ hP hD hS ls (lv_sub hl [2, 4, 1, 0] rfl) (fun H locs hP hD hS ls hl => ?_)
  refine lv_iload_n hx hb dX1_spread_81 rfl (lv_at hl 0 rfl) ?_
  have hqr : sprL (m_lk σ p2) 12 p1 = m_spread σ p1 p2 := by simp only [m_spread]
  have hqs : σ = σ := rfl
  exact W.iret (v := sprL (m_lk σ p2) 12 p1) hx hb hr (fun t ht hW => ⟨⟨sprL (m_lk σ p2) 12 p1, σ, rfl, ⟨hqr, hqs⟩, by rw [ht]; exact hP, va_K.moved hW.alike hK, hD⟩, hS.F ht⟩) hS.2.2 dX1_spread_82

set_option maxHeartbeats 4000000 in
theorem metX1_committed (l : Launch) (dC : Nat → ClassId) (dI : Nat → Nat → Nat) (h0 : Nat) (b : Nat → Nat) (cA : Nat → ClassId) (sz : Nat) (σ : XS) : MetI l yX1_committed (ws_ yX1_committed cX1_committed 2 (some .int)) ({ frames := 2, cells := 0, slots := 0, locals := 48 }) (dC, dI) (tM cA) (wM h0 b cA) h0 [] sz σ (m_comm σ) σ := by
  refine Met.ofW (cc := cX1_committed) (maxL := 2) (ret := (some .int)) (by decide) rfl ?_
  intro p e s m args below meth c s₁ B hml hv
  obtain ⟨rfl, hsz, hP, hK, hD0⟩ := hv
  have hx := B.exec
  have hb := B.bytes
  have hr := B.returns
  have hts := atoms_spec (ws := (ws_ yX1_committed cX1_committed 2 (some .int))) B.pre
  have hts : ∀ w ∈ lw_all, w.before _ s = true := fun w h => hts w (List.mem_cons_of_mem _ h)
  have hown : s.vm.findClass RX1 = some m.cls := findClass_of_methodNamed B.named
  have hlocks := B.notSynchronized
  subst hsz
  have hD := hD0.self (sz := s.heap.size)
  generalize hAe : va_A (wM h0 b cA σ) s.heap.size = A at hD ⊢
  have hA : ∀ q : Nat, s.heap.size ≤ q → A q := fun q h => by rw [← hAe]; exact Or.inr h
  have hS : va_S A s.heap s.heap [] := va_S.rf
  have hl := lv_entry ([.ref h0]) (n := 2) (Nat.le_of_ble_eq_true rfl)
  rw [lg_entry_eq]
  generalize (lg_sl ([.ref h0]) ++ List.replicate (2 - (lg_sl ([.ref h0])).length) Slot.unset).toArray = ls at hl ⊢
  have hl : lv_has ls 2 [(0, .ref h0)] := hl
  refine lv_aload_n hx hb dX1_committed_0 rfl (lv_at hl 0 rfl) ?_
  refine lv_aload_n hx hb dX1_committed_1 rfl (lv_at hl 0 rfl) ?_
  refine va_get (D := (dC, dI)) (ci := 1) (v := .int (σ.1 6)) (C := RX1) (T := TX1) (N := 7) hx hb hts in_X1 hown hK hP 0 rfl rfl 6 (by decide) (hts _ q214) (fun _ h9 => h9) rfl dX1_committed_2 ?_
  refine ca_i (D := (dC, dI)) (wf := wM h0 b cA) hx hb hml hown hts (metX1_bit l dC dI h0 b cA _ σ (σ.1 6)) (cwV 1 hts (lw_V q242 q244 qs17 q27 q245) rfl rfl rfl (by decide +kernel) ⟨Nat.le_of_ble_eq_true rfl, Nat.le_of_ble_eq_true rfl⟩) hK hP hD hS hA 0 1 rfl rfl rfl hl.1 rfl (lv_room (Nat.le_of_ble_eq_true rfl)) dX1_committed_5 ⟨Nat.le_of_ble_eq_true rfl, Nat.le_of_ble_eq_true rfl⟩ (fun H locs hP hD hS => ?_)
  refine lv_istore_n (lv' := [(1, .int (bitO (σ.1 6))), (0, .ref h0)]) hx hb dX1_committed_8 rfl hl (by decide) rfl (fun ls hl => ?_)
  refine lv_aload_n hx hb dX1_committed_9 rfl (lv_at hl 1 rfl) ?_
  refine lv_iload_n hx hb dX1_committed_10 rfl (lv_at hl 0 rfl) ?_
  refine lv_iconst (v := 0) hx hb dX1_committed_11 (by decide) ?_
  refine ca_i (D := (dC, dI)) (wf := wM h0 b cA) hx hb hml hown hts (metX1_spread l dC dI h0 b cA _ σ (bitO (σ.1 6)) 0) (cwV 2 hts (lw_V q246 q248 qs18 q27 q249) rfl rfl rfl (by decide +kernel) ⟨Nat.le_of_ble_eq_true rfl, Nat.le_of_ble_eq_true rfl⟩) hK hP hD hS hA 0 1 rfl rfl rfl hl.1 rfl (lv_room (Nat.le_of_ble_eq_true rfl)) dX1_committed_12 ⟨Nat.le_of_ble_eq_true rfl, Nat.le_of_ble_eq_true rfl⟩ (fun H locs hP hD hS => ?_)
  have hqr : m_spread σ (bitO (σ.1 6)) 0 = m_comm σ := by simp only [m_comm]
  have hqs : σ = σ := rfl
  exact W.iret (v := m_spread σ (bitO (σ.1 6)) 0) hx hb hr (fun t ht hW => ⟨⟨m_spread σ (bitO (σ.1 6)) 0, σ, rfl, ⟨hqr, hqs⟩, by rw [ht]; exact hP, va_K.moved hW.alike hK, hD⟩, hS.F ht⟩) hS.2.2 dX1_committed_15

set_option maxHeartbeats 4000000 in
theorem metX1_reached (l : Launch) (dC : Nat → ClassId) (dI : Nat → Nat → Nat) (h0 : Nat) (b : Nat → Nat) (cA : Nat → ClassId) (sz : Nat) (σ : XS) : MetI l yX1_reached (ws_ yX1_reached cX1_reached 2 (some .int)) ({ frames := 2, cells := 0, slots := 0, locals := 48 }) (dC, dI) (tM cA) (wM h0 b cA) h0 [] sz σ (m_reach σ) σ := by
  refine Met.ofW (cc := cX1_reached) (maxL := 2) (ret := (some .int)) (by decide) rfl ?_
  intro p e s m args below meth c s₁ B hml hv
  obtain ⟨rfl, hsz, hP, hK, hD0⟩ := hv
  have hx := B.exec
  have hb := B.bytes
  have hr := B.returns
  have hts := atoms_spec (ws := (ws_ yX1_reached cX1_reached 2 (some .int))) B.pre
  have hts : ∀ w ∈ lw_all, w.before _ s = true := fun w h => hts w (List.mem_cons_of_mem _ h)
  have hown : s.vm.findClass RX1 = some m.cls := findClass_of_methodNamed B.named
  have hlocks := B.notSynchronized
  subst hsz
  have hD := hD0.self (sz := s.heap.size)
  generalize hAe : va_A (wM h0 b cA σ) s.heap.size = A at hD ⊢
  have hA : ∀ q : Nat, s.heap.size ≤ q → A q := fun q h => by rw [← hAe]; exact Or.inr h
  have hS : va_S A s.heap s.heap [] := va_S.rf
  have hl := lv_entry ([.ref h0]) (n := 2) (Nat.le_of_ble_eq_true rfl)
  rw [lg_entry_eq]
  generalize (lg_sl ([.ref h0]) ++ List.replicate (2 - (lg_sl ([.ref h0])).length) Slot.unset).toArray = ls at hl ⊢
  have hl : lv_has ls 2 [(0, .ref h0)] := hl
  refine lv_aload_n hx hb dX1_reached_0 rfl (lv_at hl 0 rfl) ?_
  refine lv_aload_n hx hb dX1_reached_1 rfl (lv_at hl 0 rfl) ?_
  refine va_get (D := (dC, dI)) (ci := 1) (v := .int (σ.1 2)) (C := RX1) (T := TX1) (N := 7) hx hb hts in_X1 hown hK hP 0 rfl rfl 2 (by decide) (hts _ q210) (fun _ h9 => h9) rfl dX1_reached_2 ?_
  refine ca_i (D := (dC, dI)) (wf := wM h0 b cA) hx hb hml hown hts (metX1_bit l dC dI h0 b cA _ σ (σ.1 2)) (cwV 1 hts (lw_V q242 q244 qs17 q27 q245) rfl rfl rfl (by decide +kernel) ⟨Nat.le_of_ble_eq_true rfl, Nat.le_of_ble_eq_true rfl⟩) hK hP hD hS hA 0 1 rfl rfl rfl hl.1 rfl (lv_room (Nat.le_of_ble_eq_true rfl)) dX1_reached_5 ⟨Nat.le_of_ble_eq_true rfl, Nat.le_of_ble_eq_true rfl⟩ (fun H locs hP hD hS => ?_)
  refine lv_istore_n (lv' := [(1, .int (bitO (σ.1 2))), (0, .ref h0)]) hx hb dX1_reached_8 rfl hl (by decide) rfl (fun ls hl => ?_)
  refine lv_aload_n hx hb dX1_reached_9 rfl (lv_at hl 1 rfl) ?_
  refine lv_iload_n hx hb dX1_reached_10 rfl (lv_at hl 0 rfl) ?_
  refine lv_iconst (v := 1) hx hb dX1_reached_11 (by decide) ?_
  refine ca_i (D := (dC, dI)) (wf := wM h0 b cA) hx hb hml hown hts (metX1_spread l dC dI h0 b cA _ σ (bitO (σ.1 2)) 1) (cwV 2 hts (lw_V q246 q248 qs18 q27 q249) rfl rfl rfl (by decide +kernel) ⟨Nat.le_of_ble_eq_true rfl, Nat.le_of_ble_eq_true rfl⟩) hK hP hD hS hA 0 1 rfl rfl rfl hl.1 rfl (lv_room (Nat.le_of_ble_eq_true rfl)) dX1_reached_12 ⟨Nat.le_of_ble_eq_true rfl, Nat.le_of_ble_eq_true rfl⟩ (fun H locs hP hD hS => ?_)
  have hqr : m_spread σ (bitO (σ.1 2)) 1 = m_reach σ := by simp only [m_reach]
  have hqs : σ = σ := rfl
  exact W.iret (v := m_spread σ (bitO (σ.1 2)) 1) hx hb hr (fun t ht hW => ⟨⟨m_spread σ (bitO (σ.1 2)) 1, σ, rfl, ⟨hqr, hqs⟩, by rw [ht]; exact hP, va_K.moved hW.alike hK, hD⟩, hS.F ht⟩) hS.2.2 dX1_reached_15

set_option maxHeartbeats 4000000 in
theorem lpX1_used_11 {p : Program} {l : Launch} {e : Env} {s : State} {m : MethodId} {below : List Frame} {meth : Method} {c : Code} {args : Array Value} {Q : State → Prop} {dC : Nat → ClassId} {dI : Nat → Nat → Nat} {A : Nat → Prop} {h0 : Nat} {b : Nat → Nat} {cA : Nat → ClassId} (hx : p.tables.exec = Jvm.exec) (hb : c.code = cX1_used) (hml : c.maxLocals = 3) (hown : s.vm.findClass RX1 = some m.cls) (hts : ∀ w ∈ lw_all, w.before args s = true) (hA : ∀ q : Nat, s.heap.size ≤ q → A q) (hK : va_K (dC, dI) vwCl (tM cA) s) :
    ∀ (n i : Nat) (t : Int32) (σ : XS), i + n = 4 → ∀ (H : Heap) (locs : List Loc), va_P (dC, dI) vwCl (wM h0 b cA σ) H → va_D A (wM h0 b cA σ) → va_S A s.heap H locs → ∀ (ls : Array Slot), lv_has ls 3 [(0, .ref h0), (1, .int t), (2, .int (nI i))] →
    (∀ (H : Heap) (locs : List Loc), va_P (dC, dI) vwCl (wM h0 b cA σ) H → va_D A (wM h0 b cA σ) → va_S A s.heap H locs → ∀ (ls : Array Slot), lv_has ls 3 [(0, .ref h0), (1, .int (musL (σ.2 3) n i t))] → W p l e (headSpec (ws_ yX1_used cX1_used 3 (some .int)) ({ frames := 3, cells := 0, slots := 0, locals := 69 })).room s m args below meth c H locs 0 0 Q (F0 m 35 ls [])) → W p l e (headSpec (ws_ yX1_used cX1_used 3 (some .int)) ({ frames := 3, cells := 0, slots := 0, locals := 69 })).room s m args below meth c H locs 0 0 Q (F0 m 11 ls []) := by
  intro n
  induction n with
  | zero =>
    intro i t σ hin H locs hP hD hS ls hl hk
    obtain rfl : i = 4 := by omega
    refine lv_iload_n hx hb dX1_used_11 rfl (lv_at hl 2 rfl) ?_
    refine lv_iconst (v := 4) hx hb dX1_used_12 (by decide) ?_
    refine lv_icmp_ge (tgt := 35) hx hb dX1_used_13 (by decide) (fun c_13 => ?_) (fun c_13 => ?_)
    · exact hk _ _ hP hD hS ls (lv_sub hl [0, 1] rfl)
    · exact absurd (by decide +kernel) c_13
  | succ n ih =>
    intro i t σ hin H locs hP hD hS ls hl hk
    have hi : i < 4 := by omega
    refine lv_iload_n hx hb dX1_used_11 rfl (lv_at hl 2 rfl) ?_
    refine lv_iconst (v := 4) hx hb dX1_used_12 (by decide) ?_
    refine lv_icmp_ge (tgt := 35) hx hb dX1_used_13 (by decide) (fun c_13 => ?_) (fun c_13 => ?_)
    · exact absurd c_13 (nI_ge (b := 4) (by omega) (by decide))
    · refine lv_iload_n hx hb dX1_used_16 rfl (lv_at hl 1 rfl) ?_
      refine lv_aload_n hx hb dX1_used_17 rfl (lv_at hl 0 rfl) ?_
      refine lv_aload_n hx hb dX1_used_18 rfl (lv_at hl 0 rfl) ?_
      refine va_get (D := (dC, dI)) (ci := 1) (v := .ref (b 3)) (C := RX1) (T := TX1) (N := 7) hx hb hts in_X1 hown hK hP 0 rfl rfl 3 (by decide) (hts _ q211) (fun _ h9 => h9) rfl dX1_used_19 ?_
      refine lv_iload_n hx hb dX1_used_22 rfl (lv_at hl 2 rfl) ?_
      refine xa_iald (D := (dC, dI)) (f := σ.2 3) hx hb hK hP 3 2 rfl rfl i rfl (by omega) (by decide) dX1_used_23 ?_
      refine ca_i (D := (dC, dI)) (wf := wM h0 b cA) hx hb hml hown hts (metX1_bit l dC dI h0 b cA _ σ (σ.2 3 i)) (cwV 1 hts (lw_V q242 q244 qs17 q27 q245) rfl rfl rfl (by decide +kernel) ⟨Nat.le_of_ble_eq_true rfl, Nat.le_of_ble_eq_true rfl⟩) hK hP hD hS hA 0 1 rfl rfl rfl hl.1 rfl (lv_room (Nat.le_of_ble_eq_true rfl)) dX1_used_24 ⟨Nat.le_of_ble_eq_true rfl, Nat.le_of_ble_eq_true rfl⟩ (fun H locs hP hD hS => ?_)
      refine lv_ior hx hb dX1_used_27 ?_
      refine lv_istore_n (lv' := [(1, .int (t ||| (bitO (σ.2 3 i)))), (0, .ref h0), (2, .int (nI i))]) hx hb dX1_used_28 rfl hl (by decide) rfl (fun ls hl => ?_)
      refine lv_iinc (v := nI (i + 1)) (lv' := [(2, .int (nI (i + 1))), (1, .int (t ||| (bitO (σ.2 3 i)))), (0, .ref h0)]) hx hb dX1_used_29 hl (k := 2) rfl (nI_1 _) (by decide) rfl (fun ls hl => ?_)
      refine lv_goto (tgt := 11) hx hb dX1_used_32 (by decide) ?_
      rw [show musL (σ.2 3) (n + 1) i t = musL (σ.2 3) n (i + 1) (t ||| (bitO (σ.2 3 i))) from by simp only [musL, if_neg c_13]] at hk
      exact ih (i + 1) (t ||| (bitO (σ.2 3 i))) σ (by omega)  _ _ hP hD hS ls (lv_sub hl [2, 1, 0] rfl) hk

set_option maxHeartbeats 4000000 in
theorem metX1_used (l : Launch) (dC : Nat → ClassId) (dI : Nat → Nat → Nat) (h0 : Nat) (b : Nat → Nat) (cA : Nat → ClassId) (sz : Nat) (σ : XS) : MetI l yX1_used (ws_ yX1_used cX1_used 3 (some .int)) ({ frames := 3, cells := 0, slots := 0, locals := 69 }) (dC, dI) (tM cA) (wM h0 b cA) h0 [] sz σ (m_used σ) σ := by
  refine Met.ofW (cc := cX1_used) (maxL := 3) (ret := (some .int)) (by decide) rfl ?_
  intro p e s m args below meth c s₁ B hml hv
  obtain ⟨rfl, hsz, hP, hK, hD0⟩ := hv
  have hx := B.exec
  have hb := B.bytes
  have hr := B.returns
  have hts := atoms_spec (ws := (ws_ yX1_used cX1_used 3 (some .int))) B.pre
  have hts : ∀ w ∈ lw_all, w.before _ s = true := fun w h => hts w (List.mem_cons_of_mem _ h)
  have hown : s.vm.findClass RX1 = some m.cls := findClass_of_methodNamed B.named
  have hlocks := B.notSynchronized
  subst hsz
  have hD := hD0.self (sz := s.heap.size)
  generalize hAe : va_A (wM h0 b cA σ) s.heap.size = A at hD ⊢
  have hA : ∀ q : Nat, s.heap.size ≤ q → A q := fun q h => by rw [← hAe]; exact Or.inr h
  have hS : va_S A s.heap s.heap [] := va_S.rf
  have hl := lv_entry ([.ref h0]) (n := 3) (Nat.le_of_ble_eq_true rfl)
  rw [lg_entry_eq]
  generalize (lg_sl ([.ref h0]) ++ List.replicate (3 - (lg_sl ([.ref h0])).length) Slot.unset).toArray = ls at hl ⊢
  have hl : lv_has ls 3 [(0, .ref h0)] := hl
  refine lv_aload_n hx hb dX1_used_0 rfl (lv_at hl 0 rfl) ?_
  refine lv_aload_n hx hb dX1_used_1 rfl (lv_at hl 0 rfl) ?_
  refine va_get (D := (dC, dI)) (ci := 1) (v := .int (σ.1 2)) (C := RX1) (T := TX1) (N := 7) hx hb hts in_X1 hown hK hP 0 rfl rfl 2 (by decide) (hts _ q210) (fun _ h9 => h9) rfl dX1_used_2 ?_
  refine ca_i (D := (dC, dI)) (wf := wM h0 b cA) hx hb hml hown hts (metX1_bit l dC dI h0 b cA _ σ (σ.1 2)) (cwV 1 hts (lw_V q242 q244 qs17 q27 q245) rfl rfl rfl (by decide +kernel) ⟨Nat.le_of_ble_eq_true rfl, Nat.le_of_ble_eq_true rfl⟩) hK hP hD hS hA 0 1 rfl rfl rfl hl.1 rfl (lv_room (Nat.le_of_ble_eq_true rfl)) dX1_used_5 ⟨Nat.le_of_ble_eq_true rfl, Nat.le_of_ble_eq_true rfl⟩ (fun H locs hP hD hS => ?_)
  refine lv_istore_n (lv' := [(1, .int (bitO (σ.1 2))), (0, .ref h0)]) hx hb dX1_used_8 rfl hl (by decide) rfl (fun ls hl => ?_)
  refine lv_iconst (v := 0) hx hb dX1_used_9 (by decide) ?_
  refine lv_istore_n (lv' := [(2, .int 0), (1, .int (bitO (σ.1 2))), (0, .ref h0)]) hx hb dX1_used_10 rfl hl (by decide) rfl (fun ls hl => ?_)
  refine lpX1_used_11 hx hb hml hown hts hA hK  4 0 (bitO (σ.1 2)) σ rfl  _ _ hP hD hS ls (lv_sub hl [2, 1, 0] rfl) (fun H locs hP hD hS ls hl => ?_)
  refine lv_aload_n hx hb dX1_used_35 rfl (lv_at hl 0 rfl) ?_
  refine lv_iload_n hx hb dX1_used_36 rfl (lv_at hl 1 rfl) ?_
  refine lv_iconst (v := 1) hx hb dX1_used_37 (by decide) ?_
  refine ca_i (D := (dC, dI)) (wf := wM h0 b cA) hx hb hml hown hts (metX1_spread l dC dI h0 b cA _ σ (musL (σ.2 3) 4 0 (bitO (σ.1 2))) 1) (cwV 2 hts (lw_V q246 q248 qs18 q27 q249) rfl rfl rfl (by decide +kernel) ⟨Nat.le_of_ble_eq_true rfl, Nat.le_of_ble_eq_true rfl⟩) hK hP hD hS hA 0 1 rfl rfl rfl hl.1 rfl (lv_room (Nat.le_of_ble_eq_true rfl)) dX1_used_38 ⟨Nat.le_of_ble_eq_true rfl, Nat.le_of_ble_eq_true rfl⟩ (fun H locs hP hD hS => ?_)
  refine lv_aload_n hx hb dX1_used_41 rfl (lv_at hl 0 rfl) ?_
  refine ca_i (D := (dC, dI)) (wf := wM h0 b cA) hx hb hml hown hts (metX1_committed l dC dI h0 b cA _ σ ) (cwV 0 hts (lw_V q254 q256 qs20 q27 q257) rfl rfl rfl (by decide +kernel) ⟨Nat.le_of_ble_eq_true rfl, Nat.le_of_ble_eq_true rfl⟩) hK hP hD hS hA 0 1 rfl rfl rfl hl.1 rfl (lv_room (Nat.le_of_ble_eq_true rfl)) dX1_used_42 ⟨Nat.le_of_ble_eq_true rfl, Nat.le_of_ble_eq_true rfl⟩ (fun H locs hP hD hS => ?_)
  refine lv_ior hx hb dX1_used_45 ?_
  have hqr : (m_spread σ (musL (σ.2 3) 4 0 (bitO (σ.1 2))) 1) ||| (m_comm σ) = m_used σ := by simp only [m_used]
  have hqs : σ = σ := rfl
  exact W.iret (v := (m_spread σ (musL (σ.2 3) 4 0 (bitO (σ.1 2))) 1) ||| (m_comm σ)) hx hb hr (fun t ht hW => ⟨⟨(m_spread σ (musL (σ.2 3) 4 0 (bitO (σ.1 2))) 1) ||| (m_comm σ), σ, rfl, ⟨hqr, hqs⟩, by rw [ht]; exact hP, va_K.moved hW.alike hK, hD⟩, hS.F ht⟩) hS.2.2 dX1_used_46

set_option maxHeartbeats 4000000 in
theorem lpX1_sizeOf_4 {p : Program} {l : Launch} {e : Env} {s : State} {m : MethodId} {below : List Frame} {meth : Method} {c : Code} {args : Array Value} {Q : State → Prop} {dC : Nat → ClassId} {dI : Nat → Nat → Nat} {A : Nat → Prop} {h0 : Nat} {b : Nat → Nat} {cA : Nat → ClassId} (hx : p.tables.exec = Jvm.exec) (hb : c.code = cX1_sizeOf) (hml : c.maxLocals = 4) (hown : s.vm.findClass RX1 = some m.cls) (hts : ∀ w ∈ lw_all, w.before args s = true) (hA : ∀ q : Nat, s.heap.size ≤ q → A q) (hK : va_K (dC, dI) vwCl (tM cA) s) (p1 : Int32) :
    ∀ (n i : Nat) (t : Int32) (σ : XS), i + n = 12 → ∀ (H : Heap) (locs : List Loc), va_P (dC, dI) vwCl (wM h0 b cA σ) H → va_D A (wM h0 b cA σ) → va_S A s.heap H locs → ∀ (ls : Array Slot), lv_has ls 4 [(0, .ref h0), (1, .int p1), (2, .int t), (3, .int (nI i))] →
    (∀ (H : Heap) (locs : List Loc), va_P (dC, dI) vwCl (wM h0 b cA σ) H → va_D A (wM h0 b cA σ) → va_S A s.heap H locs → ∀ (ls : Array Slot), lv_has ls 4 [(2, .int (szL p1 n i t))] → W p l e (headSpec (ws_ yX1_sizeOf cX1_sizeOf 4 (some .int)) ({ frames := 1, cells := 0, slots := 0, locals := 22 })).room s m args below meth c H locs 0 0 Q (F0 m 28 ls [])) → W p l e (headSpec (ws_ yX1_sizeOf cX1_sizeOf 4 (some .int)) ({ frames := 1, cells := 0, slots := 0, locals := 22 })).room s m args below meth c H locs 0 0 Q (F0 m 4 ls []) := by
  intro n
  induction n with
  | zero =>
    intro i t σ hin H locs hP hD hS ls hl hk
    obtain rfl : i = 12 := by omega
    refine lv_iload_n hx hb dX1_sizeOf_4 rfl (lv_at hl 3 rfl) ?_
    refine lv_bipush (v := 12) hx hb dX1_sizeOf_5 (by decide) ?_
    refine lv_icmp_ge (tgt := 28) hx hb dX1_sizeOf_7 (by decide) (fun c_7 => ?_) (fun c_7 => ?_)
    · exact hk _ _ hP hD hS ls (lv_sub hl [2] rfl)
    · exact absurd (by decide +kernel) c_7
  | succ n ih =>
    intro i t σ hin H locs hP hD hS ls hl hk
    have hi : i < 12 := by omega
    refine lv_iload_n hx hb dX1_sizeOf_4 rfl (lv_at hl 3 rfl) ?_
    refine lv_bipush (v := 12) hx hb dX1_sizeOf_5 (by decide) ?_
    refine lv_icmp_ge (tgt := 28) hx hb dX1_sizeOf_7 (by decide) (fun c_7 => ?_) (fun c_7 => ?_)
    · exact absurd c_7 (nI_ge (b := 12) (by omega) (by decide))
    · refine lv_aload_n hx hb dX1_sizeOf_10 rfl (lv_at hl 0 rfl) ?_
      refine lv_iload_n hx hb dX1_sizeOf_11 rfl (lv_at hl 1 rfl) ?_
      refine lv_iload_n hx hb dX1_sizeOf_12 rfl (lv_at hl 3 rfl) ?_
      refine ca_i (D := (dC, dI)) (wf := wM h0 b cA) hx hb hml hown hts (metX1_in l dC dI h0 b cA _ σ p1 i) (cwV 2 hts (lw_V q250 q252 qs19 q27 q253) rfl rfl rfl (by decide +kernel) ⟨Nat.le_of_ble_eq_true rfl, Nat.le_of_ble_eq_true rfl⟩) hK hP hD hS hA 0 1 rfl rfl rfl hl.1 rfl (lv_room (Nat.le_of_ble_eq_true rfl)) dX1_sizeOf_13 ⟨Nat.le_of_ble_eq_true rfl, Nat.le_of_ble_eq_true rfl⟩ (fun H locs hP hD hS => ?_)
      refine lv_if_eq (tgt := 22) hx hb dX1_sizeOf_16 (by decide) (fun c_16 => ?_) (fun c_16 => ?_)
      · refine lv_iinc (v := nI (i + 1)) (lv' := [(3, .int (nI (i + 1))), (0, .ref h0), (1, .int p1), (2, .int t)]) hx hb dX1_sizeOf_22 hl (k := 3) rfl (nI_1 _) (by decide) rfl (fun ls hl => ?_)
        refine lv_goto (tgt := 4) hx hb dX1_sizeOf_25 (by decide) ?_
        rw [show szL p1 (n + 1) i t = szL p1 n (i + 1) t from by simp only [szL, if_neg c_7, if_pos c_16]] at hk
        exact ih (i + 1) t σ (by omega)  _ _ hP hD hS ls (lv_sub hl [1, 2, 3, 0] rfl) hk
      · refine lv_iinc (v := t + 1) (lv' := [(2, .int (t + 1)), (0, .ref h0), (1, .int p1), (3, .int (nI i))]) hx hb dX1_sizeOf_19 hl (k := 2) rfl rfl (by decide) rfl (fun ls hl => ?_)
        refine lv_iinc (v := nI (i + 1)) (lv' := [(3, .int (nI (i + 1))), (2, .int (t + 1)), (0, .ref h0), (1, .int p1)]) hx hb dX1_sizeOf_22 hl (k := 3) rfl (nI_1 _) (by decide) rfl (fun ls hl => ?_)
        refine lv_goto (tgt := 4) hx hb dX1_sizeOf_25 (by decide) ?_
        rw [show szL p1 (n + 1) i t = szL p1 n (i + 1) (t + 1) from by simp only [szL, if_neg c_7, if_neg c_16]] at hk
        exact ih (i + 1) (t + 1) σ (by omega)  _ _ hP hD hS ls (lv_sub hl [2, 3, 1, 0] rfl) hk

set_option maxHeartbeats 4000000 in
theorem metX1_sizeOf (l : Launch) (dC : Nat → ClassId) (dI : Nat → Nat → Nat) (h0 : Nat) (b : Nat → Nat) (cA : Nat → ClassId) (sz : Nat) (σ : XS) (p1 : Int32) : MetI l yX1_sizeOf (ws_ yX1_sizeOf cX1_sizeOf 4 (some .int)) ({ frames := 1, cells := 0, slots := 0, locals := 22 }) (dC, dI) (tM cA) (wM h0 b cA) h0 [.int p1] sz σ (m_size p1) σ := by
  refine Met.ofW (cc := cX1_sizeOf) (maxL := 4) (ret := (some .int)) (by decide) rfl ?_
  intro p e s m args below meth c s₁ B hml hv
  obtain ⟨rfl, hsz, hP, hK, hD0⟩ := hv
  have hx := B.exec
  have hb := B.bytes
  have hr := B.returns
  have hts := atoms_spec (ws := (ws_ yX1_sizeOf cX1_sizeOf 4 (some .int))) B.pre
  have hts : ∀ w ∈ lw_all, w.before _ s = true := fun w h => hts w (List.mem_cons_of_mem _ h)
  have hown : s.vm.findClass RX1 = some m.cls := findClass_of_methodNamed B.named
  have hlocks := B.notSynchronized
  subst hsz
  have hD := hD0.self (sz := s.heap.size)
  generalize hAe : va_A (wM h0 b cA σ) s.heap.size = A at hD ⊢
  have hA : ∀ q : Nat, s.heap.size ≤ q → A q := fun q h => by rw [← hAe]; exact Or.inr h
  have hS : va_S A s.heap s.heap [] := va_S.rf
  have hl := lv_entry ([.ref h0, .int p1]) (n := 4) (Nat.le_of_ble_eq_true rfl)
  rw [lg_entry_eq]
  generalize (lg_sl ([.ref h0, .int p1]) ++ List.replicate (4 - (lg_sl ([.ref h0, .int p1])).length) Slot.unset).toArray = ls at hl ⊢
  have hl : lv_has ls 4 [(0, .ref h0), (1, .int p1)] := hl
  refine lv_iconst (v := 0) hx hb dX1_sizeOf_0 (by decide) ?_
  refine lv_istore_n (lv' := [(2, .int 0), (0, .ref h0), (1, .int p1)]) hx hb dX1_sizeOf_1 rfl hl (by decide) rfl (fun ls hl => ?_)
  refine lv_iconst (v := 0) hx hb dX1_sizeOf_2 (by decide) ?_
  refine lv_istore_n (lv' := [(3, .int 0), (2, .int 0), (0, .ref h0), (1, .int p1)]) hx hb dX1_sizeOf_3 rfl hl (by decide) rfl (fun ls hl => ?_)
  refine lpX1_sizeOf_4 hx hb hml hown hts hA hK p1 12 0 0 σ rfl  _ _ hP hD hS ls (lv_sub hl [2, 3, 1, 0] rfl) (fun H locs hP hD hS ls hl => ?_)
  refine lv_iload_n hx hb dX1_sizeOf_28 rfl (lv_at hl 0 rfl) ?_
  have hqr : szL p1 12 0 0 = m_size p1 := by simp only [m_size]
  have hqs : σ = σ := rfl
  exact W.iret (v := szL p1 12 0 0) hx hb hr (fun t ht hW => ⟨⟨szL p1 12 0 0, σ, rfl, ⟨hqr, hqs⟩, by rw [ht]; exact hP, va_K.moved hW.alike hK, hD⟩, hS.F ht⟩) hS.2.2 dX1_sizeOf_29
end
section
set_option maxRecDepth 100000
set_option maxHeartbeats 4000000 in
theorem metX1_getRoot (l : Launch) (dC : Nat → ClassId) (dI : Nat → Nat → Nat) (h0 : Nat) (b : Nat → Nat) (cA : Nat → ClassId) (sz : Nat) (σ : XS) (p1 : Int32) : MetI l yX1_getRoot (ws_ yX1_getRoot cX1_getRoot 2 (some .int)) ({ frames := 1, cells := 0, slots := 0, locals := 21 }) (dC, dI) (tM cA) (wM h0 b cA) h0 [.int p1] sz σ ((m_getRoot σ p1).1) ((m_getRoot σ p1).2) := by
  refine Met.ofW (cc := cX1_getRoot) (maxL := 2) (ret := (some .int)) (by decide) rfl ?_
  intro p e s m args below meth c s₁ B hml hv
  obtain ⟨rfl, hsz, hP, hK, hD0⟩ := hv
  have hx := B.exec
  have hb := B.bytes
  have hr := B.returns
  have hts := atoms_spec (ws := (ws_ yX1_getRoot cX1_getRoot 2 (some .int))) B.pre
  have hts : ∀ w ∈ lw_all, w.before _ s = true := fun w h => hts w (List.mem_cons_of_mem _ h)
  have hown : s.vm.findClass RX1 = some m.cls := findClass_of_methodNamed B.named
  have hlocks := B.notSynchronized
  subst hsz
  have hD := hD0.self (sz := s.heap.size)
  generalize hAe : va_A (wM h0 b cA σ) s.heap.size = A at hD ⊢
  have hA : ∀ q : Nat, s.heap.size ≤ q → A q := fun q h => by rw [← hAe]; exact Or.inr h
  have hS : va_S A s.heap s.heap [] := va_S.rf
  have hl := lv_entry ([.ref h0, .int p1]) (n := 2) (Nat.le_of_ble_eq_true rfl)
  rw [lg_entry_eq]
  generalize (lg_sl ([.ref h0, .int p1]) ++ List.replicate (2 - (lg_sl ([.ref h0, .int p1])).length) Slot.unset).toArray = ls at hl ⊢
  have hl : lv_has ls 2 [(0, .ref h0), (1, .int p1)] := hl
  refine lv_aload_n hx hb dX1_getRoot_0 rfl (lv_at hl 0 rfl) ?_
  refine lv_iload_n hx hb dX1_getRoot_1 rfl (lv_at hl 1 rfl) ?_
  refine ca_i (D := (dC, dI)) (wf := wM h0 b cA) hx hb hml hown hts (metX1_isHandle l dC dI h0 b cA _ σ p1) (cwV 1 hts (lw_V q234 q236 qs15 q27 q237) rfl rfl rfl (by decide +kernel) ⟨Nat.le_of_ble_eq_true rfl, Nat.le_of_ble_eq_true rfl⟩) hK hP hD hS hA 0 1 rfl rfl rfl hl.1 rfl (lv_room (Nat.le_of_ble_eq_true rfl)) dX1_getRoot_2 ⟨Nat.le_of_ble_eq_true rfl, Nat.le_of_ble_eq_true rfl⟩ (fun H locs hP hD hS => ?_)
  refine lv_if_ne (tgt := 10) hx hb dX1_getRoot_5 (by decide) (fun c_5 => ?_) (fun c_5 => ?_)
  · obtain ⟨k, hk, rfl⟩ := isH_in c_5
    have hkc : (nI k).toNatClampNeg = k := nI_clamp (by omega)
    refine lv_aload_n hx hb dX1_getRoot_10 rfl (lv_at hl 0 rfl) ?_
    refine va_get (D := (dC, dI)) (ci := 1) (v := .ref (b 3)) (C := RX1) (T := TX1) (N := 7) hx hb hts in_X1 hown hK hP 0 rfl rfl 3 (by decide) (hts _ q211) (fun _ h9 => h9) rfl dX1_getRoot_11 ?_
    refine lv_iload_n hx hb dX1_getRoot_14 rfl (lv_at hl 1 rfl) ?_
    refine lv_aload_n hx hb dX1_getRoot_15 rfl (lv_at hl 0 rfl) ?_
    refine va_get (D := (dC, dI)) (ci := 1) (v := .int (σ.1 2)) (C := RX1) (T := TX1) (N := 7) hx hb hts in_X1 hown hK hP 0 rfl rfl 2 (by decide) (hts _ q210) (fun _ h9 => h9) rfl dX1_getRoot_16 ?_
    refine xa_iast (D := (dC, dI)) (f := σ.2 3) hx hb hK hP hD hS 3 2 rfl rfl k rfl (by omega) (by decide) dX1_getRoot_19 (fun H locs hP hD hS => ?_)
    have hP : va_P (dC, dI) vwCl (wM h0 b cA (setA σ 3 k (σ.1 2))) H := hP
    have hD : va_D A (wM h0 b cA (setA σ 3 k (σ.1 2))) := hD
    refine lv_aload_n hx hb dX1_getRoot_20 rfl (lv_at hl 0 rfl) ?_
    refine lv_aload_n hx hb dX1_getRoot_21 rfl (lv_at hl 0 rfl) ?_
    refine va_get (D := (dC, dI)) (ci := 1) (v := .int (σ.1 2)) (C := RX1) (T := TX1) (N := 7) hx hb hts in_X1 hown hK hP 0 rfl rfl 2 (by decide) (hts _ q210) (fun _ h9 => h9) rfl dX1_getRoot_22 ?_
    refine ca_i (D := (dC, dI)) (wf := wM h0 b cA) hx hb hml hown hts (metX1_leads l dC dI h0 b cA _ (setA σ 3 k (σ.1 2)) (σ.1 2)) (cwV 1 hts (lw_V q262 q264 qs21 q27 q265) rfl rfl rfl (by decide +kernel) ⟨Nat.le_of_ble_eq_true rfl, Nat.le_of_ble_eq_true rfl⟩) hK hP hD hS hA 0 1 rfl rfl rfl hl.1 rfl (lv_room (Nat.le_of_ble_eq_true rfl)) dX1_getRoot_25 ⟨Nat.le_of_ble_eq_true rfl, Nat.le_of_ble_eq_true rfl⟩ (fun H locs hP hD hS => ?_)
    have hqr : leads (σ.1 2) = (m_getRoot σ (nI k)).1 := by simp only [m_getRoot, if_neg c_5, hkc]
    have hqs : setA σ 3 k (σ.1 2) = (m_getRoot σ (nI k)).2 := by simp only [m_getRoot, if_neg c_5, hkc]
    exact W.iret (v := leads (σ.1 2)) hx hb hr (fun t ht hW => ⟨⟨leads (σ.1 2), (setA σ 3 k (σ.1 2)), rfl, ⟨hqr, hqs⟩, by rw [ht]; exact hP, va_K.moved hW.alike hK, hD⟩, hS.F ht⟩) hS.2.2 dX1_getRoot_28
  · refine lv_iconst (v := (-1)) hx hb dX1_getRoot_8 (by decide) ?_
    have hqr : (-1) = (m_getRoot σ p1).1 := by simp only [m_getRoot, if_pos c_5]
    have hqs : σ = (m_getRoot σ p1).2 := by simp only [m_getRoot, if_pos c_5]
    exact W.iret (v := (-1)) hx hb hr (fun t ht hW => ⟨⟨(-1), σ, rfl, ⟨hqr, hqs⟩, by rw [ht]; exact hP, va_K.moved hW.alike hK, hD⟩, hS.F ht⟩) hS.2.2 dX1_getRoot_9

set_option maxHeartbeats 4000000 in
theorem metX1_setRoot (l : Launch) (dC : Nat → ClassId) (dI : Nat → Nat → Nat) (h0 : Nat) (b : Nat → Nat) (cA : Nat → ClassId) (sz : Nat) (σ : XS) (p1 : Int32) : MetI l yX1_setRoot (ws_ yX1_setRoot cX1_setRoot 2 (some .int)) ({ frames := 1, cells := 0, slots := 0, locals := 21 }) (dC, dI) (tM cA) (wM h0 b cA) h0 [.int p1] sz σ ((m_setRoot σ p1).1) ((m_setRoot σ p1).2) := by
  refine Met.ofW (cc := cX1_setRoot) (maxL := 2) (ret := (some .int)) (by decide) rfl ?_
  intro p e s m args below meth c s₁ B hml hv
  obtain ⟨rfl, hsz, hP, hK, hD0⟩ := hv
  have hx := B.exec
  have hb := B.bytes
  have hr := B.returns
  have hts := atoms_spec (ws := (ws_ yX1_setRoot cX1_setRoot 2 (some .int))) B.pre
  have hts : ∀ w ∈ lw_all, w.before _ s = true := fun w h => hts w (List.mem_cons_of_mem _ h)
  have hown : s.vm.findClass RX1 = some m.cls := findClass_of_methodNamed B.named
  have hlocks := B.notSynchronized
  subst hsz
  have hD := hD0.self (sz := s.heap.size)
  generalize hAe : va_A (wM h0 b cA σ) s.heap.size = A at hD ⊢
  have hA : ∀ q : Nat, s.heap.size ≤ q → A q := fun q h => by rw [← hAe]; exact Or.inr h
  have hS : va_S A s.heap s.heap [] := va_S.rf
  have hl := lv_entry ([.ref h0, .int p1]) (n := 2) (Nat.le_of_ble_eq_true rfl)
  rw [lg_entry_eq]
  generalize (lg_sl ([.ref h0, .int p1]) ++ List.replicate (2 - (lg_sl ([.ref h0, .int p1])).length) Slot.unset).toArray = ls at hl ⊢
  have hl : lv_has ls 2 [(0, .ref h0), (1, .int p1)] := hl
  refine lv_aload_n hx hb dX1_setRoot_0 rfl (lv_at hl 0 rfl) ?_
  refine lv_iload_n hx hb dX1_setRoot_1 rfl (lv_at hl 1 rfl) ?_
  refine ca_i (D := (dC, dI)) (wf := wM h0 b cA) hx hb hml hown hts (metX1_isHandle l dC dI h0 b cA _ σ p1) (cwV 1 hts (lw_V q234 q236 qs15 q27 q237) rfl rfl rfl (by decide +kernel) ⟨Nat.le_of_ble_eq_true rfl, Nat.le_of_ble_eq_true rfl⟩) hK hP hD hS hA 0 1 rfl rfl rfl hl.1 rfl (lv_room (Nat.le_of_ble_eq_true rfl)) dX1_setRoot_2 ⟨Nat.le_of_ble_eq_true rfl, Nat.le_of_ble_eq_true rfl⟩ (fun H locs hP hD hS => ?_)
  refine lv_if_ne (tgt := 10) hx hb dX1_setRoot_5 (by decide) (fun c_5 => ?_) (fun c_5 => ?_)
  · obtain ⟨k, hk, rfl⟩ := isH_in c_5
    have hkc : (nI k).toNatClampNeg = k := nI_clamp (by omega)
    refine lv_aload_n hx hb dX1_setRoot_10 rfl (lv_at hl 0 rfl) ?_
    refine lv_aload_n hx hb dX1_setRoot_11 rfl (lv_at hl 0 rfl) ?_
    refine va_get (D := (dC, dI)) (ci := 1) (v := .ref (b 3)) (C := RX1) (T := TX1) (N := 7) hx hb hts in_X1 hown hK hP 0 rfl rfl 3 (by decide) (hts _ q211) (fun _ h9 => h9) rfl dX1_setRoot_12 ?_
    refine lv_iload_n hx hb dX1_setRoot_15 rfl (lv_at hl 1 rfl) ?_
    refine xa_iald (D := (dC, dI)) (f := σ.2 3) hx hb hK hP 3 2 rfl rfl k rfl (by omega) (by decide) dX1_setRoot_16 ?_
    refine va_put (D := (dC, dI)) (ci := 1) (v := .int (σ.2 3 k)) (ty := .int) (C := RX1) (T := TX1) (N := 7) hx hb hts in_X1 tyX1 tyX1_ok nmX1 hown hK hP hD hS 0 rfl rfl 2 (by decide) (hts _ q210) (fun _ h9 => h9) rfl (by decide +kernel) rfl rfl (Nat.le_of_ble_eq_true rfl) dX1_setRoot_17 (fun H locs hP hD hS => ?_)
    have hP : va_P (dC, dI) vwCl (wM h0 b cA (setF σ 2 (σ.2 3 k))) H := hP
    have hD : va_D A (wM h0 b cA (setF σ 2 (σ.2 3 k))) := hD
    refine lv_aload_n hx hb dX1_setRoot_20 rfl (lv_at hl 0 rfl) ?_
    refine lv_aload_n hx hb dX1_setRoot_21 rfl (lv_at hl 0 rfl) ?_
    refine va_get (D := (dC, dI)) (ci := 1) (v := .int (σ.2 3 k)) (C := RX1) (T := TX1) (N := 7) hx hb hts in_X1 hown hK hP 0 rfl rfl 2 (by decide) (hts _ q210) (fun _ h9 => h9) rfl dX1_setRoot_22 ?_
    refine ca_i (D := (dC, dI)) (wf := wM h0 b cA) hx hb hml hown hts (metX1_leads l dC dI h0 b cA _ (setF σ 2 (σ.2 3 k)) (σ.2 3 k)) (cwV 1 hts (lw_V q262 q264 qs21 q27 q265) rfl rfl rfl (by decide +kernel) ⟨Nat.le_of_ble_eq_true rfl, Nat.le_of_ble_eq_true rfl⟩) hK hP hD hS hA 0 1 rfl rfl rfl hl.1 rfl (lv_room (Nat.le_of_ble_eq_true rfl)) dX1_setRoot_25 ⟨Nat.le_of_ble_eq_true rfl, Nat.le_of_ble_eq_true rfl⟩ (fun H locs hP hD hS => ?_)
    have hqr : leads (σ.2 3 k) = (m_setRoot σ (nI k)).1 := by simp only [m_setRoot, if_neg c_5, hkc]
    have hqs : setF σ 2 (σ.2 3 k) = (m_setRoot σ (nI k)).2 := by simp only [m_setRoot, if_neg c_5, hkc]
    exact W.iret (v := leads (σ.2 3 k)) hx hb hr (fun t ht hW => ⟨⟨leads (σ.2 3 k), (setF σ 2 (σ.2 3 k)), rfl, ⟨hqr, hqs⟩, by rw [ht]; exact hP, va_K.moved hW.alike hK, hD⟩, hS.F ht⟩) hS.2.2 dX1_setRoot_28
  · refine lv_iconst (v := (-1)) hx hb dX1_setRoot_8 (by decide) ?_
    have hqr : (-1) = (m_setRoot σ p1).1 := by simp only [m_setRoot, if_pos c_5]
    have hqs : σ = (m_setRoot σ p1).2 := by simp only [m_setRoot, if_pos c_5]
    exact W.iret (v := (-1)) hx hb hr (fun t ht hW => ⟨⟨(-1), σ, rfl, ⟨hqr, hqs⟩, by rw [ht]; exact hP, va_K.moved hW.alike hK, hD⟩, hS.F ht⟩) hS.2.2 dX1_setRoot_9

set_option maxHeartbeats 4000000 in
theorem metX1_follow (l : Launch) (dC : Nat → ClassId) (dI : Nat → Nat → Nat) (h0 : Nat) (b : Nat → Nat) (cA : Nat → ClassId) (sz : Nat) (σ : XS) (p1 : Int32) (p2 : Int32) (p3 : Int32) (hok : okM σ) : MetI l yX1_follow (ws_ yX1_follow cX1_follow 4 (some .int)) ({ frames := 1, cells := 0, slots := 0, locals := 21 }) (dC, dI) (tM cA) (wM h0 b cA) h0 [.int p1, .int p2, .int p3] sz σ ((m_follow σ p1 p2 p3).1) ((m_follow σ p1 p2 p3).2) := by
  refine Met.ofW (cc := cX1_follow) (maxL := 4) (ret := (some .int)) (by decide) rfl ?_
  intro p e s m args below meth c s₁ B hml hv
  obtain ⟨rfl, hsz, hP, hK, hD0⟩ := hv
  have hx := B.exec
  have hb := B.bytes
  have hr := B.returns
  have hts := atoms_spec (ws := (ws_ yX1_follow cX1_follow 4 (some .int))) B.pre
  have hts : ∀ w ∈ lw_all, w.before _ s = true := fun w h => hts w (List.mem_cons_of_mem _ h)
  have hown : s.vm.findClass RX1 = some m.cls := findClass_of_methodNamed B.named
  have hlocks := B.notSynchronized
  subst hsz
  have hD := hD0.self (sz := s.heap.size)
  generalize hAe : va_A (wM h0 b cA σ) s.heap.size = A at hD ⊢
  have hA : ∀ q : Nat, s.heap.size ≤ q → A q := fun q h => by rw [← hAe]; exact Or.inr h
  have hS : va_S A s.heap s.heap [] := va_S.rf
  have hl := lv_entry ([.ref h0, .int p1, .int p2, .int p3]) (n := 4) (Nat.le_of_ble_eq_true rfl)
  rw [lg_entry_eq]
  generalize (lg_sl ([.ref h0, .int p1, .int p2, .int p3]) ++ List.replicate (4 - (lg_sl ([.ref h0, .int p1, .int p2, .int p3])).length) Slot.unset).toArray = ls at hl ⊢
  have hl : lv_has ls 4 [(0, .ref h0), (1, .int p1), (2, .int p2), (3, .int p3)] := hl
  refine lv_aload_n hx hb dX1_follow_0 rfl (lv_at hl 0 rfl) ?_
  refine lv_iload_n hx hb dX1_follow_1 rfl (lv_at hl 1 rfl) ?_
  refine ca_i (D := (dC, dI)) (wf := wM h0 b cA) hx hb hml hown hts (metX1_isHandle l dC dI h0 b cA _ σ p1) (cwV 1 hts (lw_V q234 q236 qs15 q27 q237) rfl rfl rfl (by decide +kernel) ⟨Nat.le_of_ble_eq_true rfl, Nat.le_of_ble_eq_true rfl⟩) hK hP hD hS hA 0 1 rfl rfl rfl hl.1 rfl (lv_room (Nat.le_of_ble_eq_true rfl)) dX1_follow_2 ⟨Nat.le_of_ble_eq_true rfl, Nat.le_of_ble_eq_true rfl⟩ (fun H locs hP hD hS => ?_)
  refine lv_if_eq (tgt := 25) hx hb dX1_follow_5 (by decide) (fun c_5 => ?_) (fun c_5 => ?_)
  · refine lv_iconst (v := (-1)) hx hb dX1_follow_25 (by decide) ?_
    have hqr : (-1) = (m_follow σ p1 p2 p3).1 := by simp only [m_follow, m_fol, if_pos c_5]
    have hqs : σ = (m_follow σ p1 p2 p3).2 := by simp only [m_follow, m_fol, if_pos c_5]
    exact W.iret (v := (-1)) hx hb hr (fun t ht hW => ⟨⟨(-1), σ, rfl, ⟨hqr, hqs⟩, by rw [ht]; exact hP, va_K.moved hW.alike hK, hD⟩, hS.F ht⟩) hS.2.2 dX1_follow_26
  · refine lv_aload_n hx hb dX1_follow_8 rfl (lv_at hl 0 rfl) ?_
    refine lv_iload_n hx hb dX1_follow_9 rfl (lv_at hl 2 rfl) ?_
    refine ca_i (D := (dC, dI)) (wf := wM h0 b cA) hx hb hml hown hts (metX1_isHandle l dC dI h0 b cA _ σ p2) (cwV 1 hts (lw_V q234 q236 qs15 q27 q237) rfl rfl rfl (by decide +kernel) ⟨Nat.le_of_ble_eq_true rfl, Nat.le_of_ble_eq_true rfl⟩) hK hP hD hS hA 0 1 rfl rfl rfl hl.1 rfl (lv_room (Nat.le_of_ble_eq_true rfl)) dX1_follow_10 ⟨Nat.le_of_ble_eq_true rfl, Nat.le_of_ble_eq_true rfl⟩ (fun H locs hP hD hS => ?_)
    refine lv_if_eq (tgt := 25) hx hb dX1_follow_13 (by decide) (fun c_13 => ?_) (fun c_13 => ?_)
    · refine lv_iconst (v := (-1)) hx hb dX1_follow_25 (by decide) ?_
      have hqr : (-1) = (m_follow σ p1 p2 p3).1 := by simp only [m_follow, m_fol, if_neg c_5, if_pos c_13]
      have hqs : σ = (m_follow σ p1 p2 p3).2 := by simp only [m_follow, m_fol, if_neg c_5, if_pos c_13]
      exact W.iret (v := (-1)) hx hb hr (fun t ht hW => ⟨⟨(-1), σ, rfl, ⟨hqr, hqs⟩, by rw [ht]; exact hP, va_K.moved hW.alike hK, hD⟩, hS.F ht⟩) hS.2.2 dX1_follow_26
    · refine lv_iload_n hx hb dX1_follow_16 rfl (lv_at hl 3 rfl) ?_
      refine lv_if_lt (tgt := 25) hx hb dX1_follow_17 (by decide) (fun c_17 => ?_) (fun c_17 => ?_)
      · refine lv_iconst (v := (-1)) hx hb dX1_follow_25 (by decide) ?_
        have hqr : (-1) = (m_follow σ p1 p2 p3).1 := by simp only [m_follow, m_fol, if_neg c_5, if_neg c_13, if_pos c_17]
        have hqs : σ = (m_follow σ p1 p2 p3).2 := by simp only [m_follow, m_fol, if_neg c_5, if_neg c_13, if_pos c_17]
        exact W.iret (v := (-1)) hx hb hr (fun t ht hW => ⟨⟨(-1), σ, rfl, ⟨hqr, hqs⟩, by rw [ht]; exact hP, va_K.moved hW.alike hK, hD⟩, hS.F ht⟩) hS.2.2 dX1_follow_26
      · refine lv_iload_n hx hb dX1_follow_20 rfl (lv_at hl 3 rfl) ?_
        refine lv_iconst (v := 1) hx hb dX1_follow_21 (by decide) ?_
        refine lv_icmp_le (tgt := 27) hx hb dX1_follow_22 (by decide) (fun c_22 => ?_) (fun c_22 => ?_)
        · obtain ⟨k1, hk1, rfl⟩ := isH_in c_5
          obtain ⟨k2, hk2, rfl⟩ := isH_in c_13
          obtain ⟨w, hw, rfl⟩ := w_in c_17 c_22
          have hk1c : (nI k1).toNatClampNeg = k1 := nI_clamp (by omega)
          have hk2c : (nI k2).toNatClampNeg = k2 := nI_clamp (by omega)
          have hwc : (nI w).toNatClampNeg = w := nI_clamp (by omega)
          refine lv_aload_n hx hb dX1_follow_27 rfl (lv_at hl 0 rfl) ?_
          refine va_get (D := (dC, dI)) (ci := 1) (v := .ref (b 3)) (C := RX1) (T := TX1) (N := 7) hx hb hts in_X1 hown hK hP 0 rfl rfl 3 (by decide) (hts _ q211) (fun _ h9 => h9) rfl dX1_follow_28 ?_
          refine lv_iload_n hx hb dX1_follow_31 rfl (lv_at hl 2 rfl) ?_
          refine xa_iald (D := (dC, dI)) (f := σ.2 3) hx hb hK hP 3 2 rfl rfl k2 rfl (by omega) (by decide) dX1_follow_32 ?_
          refine lv_if_ge (tgt := 39) hx hb dX1_follow_33 (by decide) (fun c_33 => ?_) (fun c_33 => ?_)
          · obtain ⟨j, hj, ej⟩ := okv_nn (hok.2.2.1 k2) c_33
            rw [ej] at c_33
            have hjc : (nI j).toNatClampNeg = j := nI_clamp (by omega)
            refine lv_aload_n hx hb dX1_follow_39 rfl (lv_at hl 0 rfl) ?_
            refine va_get (D := (dC, dI)) (ci := 1) (v := .ref (b 3)) (C := RX1) (T := TX1) (N := 7) hx hb hts in_X1 hown hK hP 0 rfl rfl 3 (by decide) (hts _ q211) (fun _ h9 => h9) rfl dX1_follow_40 ?_
            refine lv_iload_n hx hb dX1_follow_43 rfl (lv_at hl 1 rfl) ?_
            refine lv_aload_n hx hb dX1_follow_44 rfl (lv_at hl 0 rfl) ?_
            refine va_get (D := (dC, dI)) (ci := 1) (v := .ref (b 1)) (C := RX1) (T := TX1) (N := 7) hx hb hts in_X1 hown hK hP 0 rfl rfl 1 (by decide) (hts _ q209) (fun _ h9 => h9) rfl dX1_follow_45 ?_
            refine lv_iconst (v := 2) hx hb dX1_follow_48 (by decide) ?_
            refine lv_aload_n hx hb dX1_follow_49 rfl (lv_at hl 0 rfl) ?_
            refine va_get (D := (dC, dI)) (ci := 1) (v := .ref (b 3)) (C := RX1) (T := TX1) (N := 7) hx hb hts in_X1 hown hK hP 0 rfl rfl 3 (by decide) (hts _ q211) (fun _ h9 => h9) rfl dX1_follow_50 ?_
            refine lv_iload_n hx hb dX1_follow_53 rfl (lv_at hl 2 rfl) ?_
            refine xa_iald (D := (dC, dI)) (f := σ.2 3) hx hb hK hP 3 2 rfl rfl k2 rfl (by omega) (by decide) dX1_follow_54 ?_
            refine lv_tope (ej) ?_
            refine lv_imul hx hb dX1_follow_55 ?_
            refine lv_tope (e2m _) ?_
            refine lv_iload_n hx hb dX1_follow_56 rfl (lv_at hl 3 rfl) ?_
            refine lv_iadd hx hb dX1_follow_57 ?_
            refine lv_tope (nI_add _ _) ?_
            refine xa_iald (D := (dC, dI)) (f := σ.2 1) hx hb hK hP 2 1 rfl rfl (2 * j + w) rfl (by omega) (by decide) dX1_follow_58 ?_
            refine xa_iast (D := (dC, dI)) (f := σ.2 3) hx hb hK hP hD hS 3 2 rfl rfl k1 rfl (by omega) (by decide) dX1_follow_59 (fun H locs hP hD hS => ?_)
            have hP : va_P (dC, dI) vwCl (wM h0 b cA (setA σ 3 k1 (σ.2 1 (2 * j + w)))) H := hP
            have hD : va_D A (wM h0 b cA (setA σ 3 k1 (σ.2 1 (2 * j + w)))) := hD
            refine lv_aload_n hx hb dX1_follow_60 rfl (lv_at hl 0 rfl) ?_
            refine lv_aload_n hx hb dX1_follow_61 rfl (lv_at hl 0 rfl) ?_
            refine va_get (D := (dC, dI)) (ci := 1) (v := .ref (b 3)) (C := RX1) (T := TX1) (N := 7) hx hb hts in_X1 hown hK hP 0 rfl rfl 3 (by decide) (hts _ q211) (fun _ h9 => h9) rfl dX1_follow_62 ?_
            refine lv_iload_n hx hb dX1_follow_65 rfl (lv_at hl 1 rfl) ?_
            refine xa_iald (D := (dC, dI)) (f := (setA σ 3 k1 (σ.2 1 (2 * j + w))).2 3) hx hb hK hP 3 2 rfl rfl k1 rfl (by omega) (by decide) dX1_follow_66 ?_
            refine lv_tope (setA_same _ _ _ _) ?_
            refine ca_i (D := (dC, dI)) (wf := wM h0 b cA) hx hb hml hown hts (metX1_leads l dC dI h0 b cA _ (setA σ 3 k1 (σ.2 1 (2 * j + w))) (σ.2 1 (2 * j + w))) (cwV 1 hts (lw_V q262 q264 qs21 q27 q265) rfl rfl rfl (by decide +kernel) ⟨Nat.le_of_ble_eq_true rfl, Nat.le_of_ble_eq_true rfl⟩) hK hP hD hS hA 0 1 rfl rfl rfl hl.1 rfl (lv_room (Nat.le_of_ble_eq_true rfl)) dX1_follow_67 ⟨Nat.le_of_ble_eq_true rfl, Nat.le_of_ble_eq_true rfl⟩ (fun H locs hP hD hS => ?_)
            have hqr : leads (σ.2 1 (2 * j + w)) = (m_follow σ (nI k1) (nI k2) (nI w)).1 := by simp only [m_follow, m_fol, if_neg c_5, if_neg c_13, if_neg c_17, if_pos c_22, if_pos c_33, hk1c, hk2c, hwc, ej, hjc]
            have hqs : setA σ 3 k1 (σ.2 1 (2 * j + w)) = (m_follow σ (nI k1) (nI k2) (nI w)).2 := by simp only [m_follow, m_fol, if_neg c_5, if_neg c_13, if_neg c_17, if_pos c_22, if_pos c_33, hk1c, hk2c, hwc, ej, hjc]
            exact W.iret (v := leads (σ.2 1 (2 * j + w))) hx hb hr (fun t ht hW => ⟨⟨leads (σ.2 1 (2 * j + w)), (setA σ 3 k1 (σ.2 1 (2 * j + w))), rfl, ⟨hqr, hqs⟩, by rw [ht]; exact hP, va_K.moved hW.alike hK, hD⟩, hS.F ht⟩) hS.2.2 dX1_follow_70
          · refine lv_bipush (v := (-3)) hx hb dX1_follow_36 (by decide) ?_
            have hqr : (-3) = (m_follow σ (nI k1) (nI k2) (nI w)).1 := by simp only [m_follow, m_fol, if_neg c_5, if_neg c_13, if_neg c_17, if_pos c_22, if_neg c_33, hk1c, hk2c, hwc]
            have hqs : σ = (m_follow σ (nI k1) (nI k2) (nI w)).2 := by simp only [m_follow, m_fol, if_neg c_5, if_neg c_13, if_neg c_17, if_pos c_22, if_neg c_33, hk1c, hk2c, hwc]
            exact W.iret (v := (-3)) hx hb hr (fun t ht hW => ⟨⟨(-3), σ, rfl, ⟨hqr, hqs⟩, by rw [ht]; exact hP, va_K.moved hW.alike hK, hD⟩, hS.F ht⟩) hS.2.2 dX1_follow_38
        · refine lv_iconst (v := (-1)) hx hb dX1_follow_25 (by decide) ?_
          have hqr : (-1) = (m_follow σ p1 p2 p3).1 := by simp only [m_follow, m_fol, if_neg c_5, if_neg c_13, if_neg c_17, if_neg c_22]
          have hqs : σ = (m_follow σ p1 p2 p3).2 := by simp only [m_follow, m_fol, if_neg c_5, if_neg c_13, if_neg c_17, if_neg c_22]
          exact W.iret (v := (-1)) hx hb hr (fun t ht hW => ⟨⟨(-1), σ, rfl, ⟨hqr, hqs⟩, by rw [ht]; exact hP, va_K.moved hW.alike hK, hD⟩, hS.F ht⟩) hS.2.2 dX1_follow_26

set_option maxHeartbeats 4000000 in
theorem metX1_link (l : Launch) (dC : Nat → ClassId) (dI : Nat → Nat → Nat) (h0 : Nat) (b : Nat → Nat) (cA : Nat → ClassId) (sz : Nat) (σ : XS) (p1 : Int32) (p2 : Int32) (p3 : Int32) (hok : okM σ) : MetI l yX1_link (ws_ yX1_link cX1_link 4 (some .int)) ({ frames := 1, cells := 0, slots := 0, locals := 21 }) (dC, dI) (tM cA) (wM h0 b cA) h0 [.int p1, .int p2, .int p3] sz σ ((m_linkM σ p1 p2 p3).1) ((m_linkM σ p1 p2 p3).2) := by
  refine Met.ofW (cc := cX1_link) (maxL := 4) (ret := (some .int)) (by decide) rfl ?_
  intro p e s m args below meth c s₁ B hml hv
  obtain ⟨rfl, hsz, hP, hK, hD0⟩ := hv
  have hx := B.exec
  have hb := B.bytes
  have hr := B.returns
  have hts := atoms_spec (ws := (ws_ yX1_link cX1_link 4 (some .int))) B.pre
  have hts : ∀ w ∈ lw_all, w.before _ s = true := fun w h => hts w (List.mem_cons_of_mem _ h)
  have hown : s.vm.findClass RX1 = some m.cls := findClass_of_methodNamed B.named
  have hlocks := B.notSynchronized
  subst hsz
  have hD := hD0.self (sz := s.heap.size)
  generalize hAe : va_A (wM h0 b cA σ) s.heap.size = A at hD ⊢
  have hA : ∀ q : Nat, s.heap.size ≤ q → A q := fun q h => by rw [← hAe]; exact Or.inr h
  have hS : va_S A s.heap s.heap [] := va_S.rf
  have hl := lv_entry ([.ref h0, .int p1, .int p2, .int p3]) (n := 4) (Nat.le_of_ble_eq_true rfl)
  rw [lg_entry_eq]
  generalize (lg_sl ([.ref h0, .int p1, .int p2, .int p3]) ++ List.replicate (4 - (lg_sl ([.ref h0, .int p1, .int p2, .int p3])).length) Slot.unset).toArray = ls at hl ⊢
  have hl : lv_has ls 4 [(0, .ref h0), (1, .int p1), (2, .int p2), (3, .int p3)] := hl
  refine lv_aload_n hx hb dX1_link_0 rfl (lv_at hl 0 rfl) ?_
  refine lv_iload_n hx hb dX1_link_1 rfl (lv_at hl 1 rfl) ?_
  refine ca_i (D := (dC, dI)) (wf := wM h0 b cA) hx hb hml hown hts (metX1_isHandle l dC dI h0 b cA _ σ p1) (cwV 1 hts (lw_V q234 q236 qs15 q27 q237) rfl rfl rfl (by decide +kernel) ⟨Nat.le_of_ble_eq_true rfl, Nat.le_of_ble_eq_true rfl⟩) hK hP hD hS hA 0 1 rfl rfl rfl hl.1 rfl (lv_room (Nat.le_of_ble_eq_true rfl)) dX1_link_2 ⟨Nat.le_of_ble_eq_true rfl, Nat.le_of_ble_eq_true rfl⟩ (fun H locs hP hD hS => ?_)
  refine lv_if_eq (tgt := 25) hx hb dX1_link_5 (by decide) (fun c_5 => ?_) (fun c_5 => ?_)
  · refine lv_iconst (v := (-1)) hx hb dX1_link_25 (by decide) ?_
    have hqr : (-1) = (m_linkM σ p1 p2 p3).1 := by simp only [m_linkM, m_lnk, if_pos c_5]
    have hqs : σ = (m_linkM σ p1 p2 p3).2 := by simp only [m_linkM, m_lnk, if_pos c_5]
    exact W.iret (v := (-1)) hx hb hr (fun t ht hW => ⟨⟨(-1), σ, rfl, ⟨hqr, hqs⟩, by rw [ht]; exact hP, va_K.moved hW.alike hK, hD⟩, hS.F ht⟩) hS.2.2 dX1_link_26
  · refine lv_aload_n hx hb dX1_link_8 rfl (lv_at hl 0 rfl) ?_
    refine lv_iload_n hx hb dX1_link_9 rfl (lv_at hl 3 rfl) ?_
    refine ca_i (D := (dC, dI)) (wf := wM h0 b cA) hx hb hml hown hts (metX1_isHandle l dC dI h0 b cA _ σ p3) (cwV 1 hts (lw_V q234 q236 qs15 q27 q237) rfl rfl rfl (by decide +kernel) ⟨Nat.le_of_ble_eq_true rfl, Nat.le_of_ble_eq_true rfl⟩) hK hP hD hS hA 0 1 rfl rfl rfl hl.1 rfl (lv_room (Nat.le_of_ble_eq_true rfl)) dX1_link_10 ⟨Nat.le_of_ble_eq_true rfl, Nat.le_of_ble_eq_true rfl⟩ (fun H locs hP hD hS => ?_)
    refine lv_if_eq (tgt := 25) hx hb dX1_link_13 (by decide) (fun c_13 => ?_) (fun c_13 => ?_)
    · refine lv_iconst (v := (-1)) hx hb dX1_link_25 (by decide) ?_
      have hqr : (-1) = (m_linkM σ p1 p2 p3).1 := by simp only [m_linkM, m_lnk, if_neg c_5, if_pos c_13]
      have hqs : σ = (m_linkM σ p1 p2 p3).2 := by simp only [m_linkM, m_lnk, if_neg c_5, if_pos c_13]
      exact W.iret (v := (-1)) hx hb hr (fun t ht hW => ⟨⟨(-1), σ, rfl, ⟨hqr, hqs⟩, by rw [ht]; exact hP, va_K.moved hW.alike hK, hD⟩, hS.F ht⟩) hS.2.2 dX1_link_26
    · refine lv_iload_n hx hb dX1_link_16 rfl (lv_at hl 2 rfl) ?_
      refine lv_if_lt (tgt := 25) hx hb dX1_link_17 (by decide) (fun c_17 => ?_) (fun c_17 => ?_)
      · refine lv_iconst (v := (-1)) hx hb dX1_link_25 (by decide) ?_
        have hqr : (-1) = (m_linkM σ p1 p2 p3).1 := by simp only [m_linkM, m_lnk, if_neg c_5, if_neg c_13, if_pos c_17]
        have hqs : σ = (m_linkM σ p1 p2 p3).2 := by simp only [m_linkM, m_lnk, if_neg c_5, if_neg c_13, if_pos c_17]
        exact W.iret (v := (-1)) hx hb hr (fun t ht hW => ⟨⟨(-1), σ, rfl, ⟨hqr, hqs⟩, by rw [ht]; exact hP, va_K.moved hW.alike hK, hD⟩, hS.F ht⟩) hS.2.2 dX1_link_26
      · refine lv_iload_n hx hb dX1_link_20 rfl (lv_at hl 2 rfl) ?_
        refine lv_iconst (v := 1) hx hb dX1_link_21 (by decide) ?_
        refine lv_icmp_le (tgt := 27) hx hb dX1_link_22 (by decide) (fun c_22 => ?_) (fun c_22 => ?_)
        · obtain ⟨k1, hk1, rfl⟩ := isH_in c_5
          obtain ⟨k2, hk2, rfl⟩ := isH_in c_13
          obtain ⟨w, hw, rfl⟩ := w_in c_17 c_22
          have hk1c : (nI k1).toNatClampNeg = k1 := nI_clamp (by omega)
          have hk2c : (nI k2).toNatClampNeg = k2 := nI_clamp (by omega)
          have hwc : (nI w).toNatClampNeg = w := nI_clamp (by omega)
          refine lv_aload_n hx hb dX1_link_27 rfl (lv_at hl 0 rfl) ?_
          refine va_get (D := (dC, dI)) (ci := 1) (v := .ref (b 3)) (C := RX1) (T := TX1) (N := 7) hx hb hts in_X1 hown hK hP 0 rfl rfl 3 (by decide) (hts _ q211) (fun _ h9 => h9) rfl dX1_link_28 ?_
          refine lv_iload_n hx hb dX1_link_31 rfl (lv_at hl 1 rfl) ?_
          refine xa_iald (D := (dC, dI)) (f := σ.2 3) hx hb hK hP 3 2 rfl rfl k1 rfl (by omega) (by decide) dX1_link_32 ?_
          refine lv_if_ge (tgt := 39) hx hb dX1_link_33 (by decide) (fun c_33 => ?_) (fun c_33 => ?_)
          · obtain ⟨j, hj, ej⟩ := okv_nn (hok.2.2.1 k1) c_33
            rw [ej] at c_33
            have hjc : (nI j).toNatClampNeg = j := nI_clamp (by omega)
            refine lv_aload_n hx hb dX1_link_39 rfl (lv_at hl 0 rfl) ?_
            refine va_get (D := (dC, dI)) (ci := 1) (v := .ref (b 1)) (C := RX1) (T := TX1) (N := 7) hx hb hts in_X1 hown hK hP 0 rfl rfl 1 (by decide) (hts _ q209) (fun _ h9 => h9) rfl dX1_link_40 ?_
            refine lv_iconst (v := 2) hx hb dX1_link_43 (by decide) ?_
            refine lv_aload_n hx hb dX1_link_44 rfl (lv_at hl 0 rfl) ?_
            refine va_get (D := (dC, dI)) (ci := 1) (v := .ref (b 3)) (C := RX1) (T := TX1) (N := 7) hx hb hts in_X1 hown hK hP 0 rfl rfl 3 (by decide) (hts _ q211) (fun _ h9 => h9) rfl dX1_link_45 ?_
            refine lv_iload_n hx hb dX1_link_48 rfl (lv_at hl 1 rfl) ?_
            refine xa_iald (D := (dC, dI)) (f := σ.2 3) hx hb hK hP 3 2 rfl rfl k1 rfl (by omega) (by decide) dX1_link_49 ?_
            refine lv_tope (ej) ?_
            refine lv_imul hx hb dX1_link_50 ?_
            refine lv_tope (e2m _) ?_
            refine lv_iload_n hx hb dX1_link_51 rfl (lv_at hl 2 rfl) ?_
            refine lv_iadd hx hb dX1_link_52 ?_
            refine lv_tope (nI_add _ _) ?_
            refine lv_aload_n hx hb dX1_link_53 rfl (lv_at hl 0 rfl) ?_
            refine va_get (D := (dC, dI)) (ci := 1) (v := .ref (b 3)) (C := RX1) (T := TX1) (N := 7) hx hb hts in_X1 hown hK hP 0 rfl rfl 3 (by decide) (hts _ q211) (fun _ h9 => h9) rfl dX1_link_54 ?_
            refine lv_iload_n hx hb dX1_link_57 rfl (lv_at hl 3 rfl) ?_
            refine xa_iald (D := (dC, dI)) (f := σ.2 3) hx hb hK hP 3 2 rfl rfl k2 rfl (by omega) (by decide) dX1_link_58 ?_
            refine xa_iast (D := (dC, dI)) (f := σ.2 1) hx hb hK hP hD hS 2 1 rfl rfl (2 * j + w) rfl (by omega) (by decide) dX1_link_59 (fun H locs hP hD hS => ?_)
            have hP : va_P (dC, dI) vwCl (wM h0 b cA (setA σ 1 (2 * j + w) (σ.2 3 k2))) H := hP
            have hD : va_D A (wM h0 b cA (setA σ 1 (2 * j + w) (σ.2 3 k2))) := hD
            refine lv_aload_n hx hb dX1_link_60 rfl (lv_at hl 0 rfl) ?_
            refine lv_aload_n hx hb dX1_link_61 rfl (lv_at hl 0 rfl) ?_
            refine va_get (D := (dC, dI)) (ci := 1) (v := .ref (b 3)) (C := RX1) (T := TX1) (N := 7) hx hb hts in_X1 hown hK hP 0 rfl rfl 3 (by decide) (hts _ q211) (fun _ h9 => h9) rfl dX1_link_62 ?_
            refine lv_iload_n hx hb dX1_link_65 rfl (lv_at hl 3 rfl) ?_
            refine xa_iald (D := (dC, dI)) (f := σ.2 3) hx hb hK hP 3 2 rfl rfl k2 rfl (by omega) (by decide) dX1_link_66 ?_
            refine ca_i (D := (dC, dI)) (wf := wM h0 b cA) hx hb hml hown hts (metX1_leads l dC dI h0 b cA _ (setA σ 1 (2 * j + w) (σ.2 3 k2)) (σ.2 3 k2)) (cwV 1 hts (lw_V q262 q264 qs21 q27 q265) rfl rfl rfl (by decide +kernel) ⟨Nat.le_of_ble_eq_true rfl, Nat.le_of_ble_eq_true rfl⟩) hK hP hD hS hA 0 1 rfl rfl rfl hl.1 rfl (lv_room (Nat.le_of_ble_eq_true rfl)) dX1_link_67 ⟨Nat.le_of_ble_eq_true rfl, Nat.le_of_ble_eq_true rfl⟩ (fun H locs hP hD hS => ?_)
            have hqr : leads (σ.2 3 k2) = (m_linkM σ (nI k1) (nI w) (nI k2)).1 := by simp only [m_linkM, m_lnk, if_neg c_5, if_neg c_13, if_neg c_17, if_pos c_22, if_pos c_33, hk1c, hk2c, hwc, ej, hjc]
            have hqs : setA σ 1 (2 * j + w) (σ.2 3 k2) = (m_linkM σ (nI k1) (nI w) (nI k2)).2 := by simp only [m_linkM, m_lnk, if_neg c_5, if_neg c_13, if_neg c_17, if_pos c_22, if_pos c_33, hk1c, hk2c, hwc, ej, hjc]
            exact W.iret (v := leads (σ.2 3 k2)) hx hb hr (fun t ht hW => ⟨⟨leads (σ.2 3 k2), (setA σ 1 (2 * j + w) (σ.2 3 k2)), rfl, ⟨hqr, hqs⟩, by rw [ht]; exact hP, va_K.moved hW.alike hK, hD⟩, hS.F ht⟩) hS.2.2 dX1_link_70
          · refine lv_bipush (v := (-3)) hx hb dX1_link_36 (by decide) ?_
            have hqr : (-3) = (m_linkM σ (nI k1) (nI w) (nI k2)).1 := by simp only [m_linkM, m_lnk, if_neg c_5, if_neg c_13, if_neg c_17, if_pos c_22, if_neg c_33, hk1c, hk2c, hwc]
            have hqs : σ = (m_linkM σ (nI k1) (nI w) (nI k2)).2 := by simp only [m_linkM, m_lnk, if_neg c_5, if_neg c_13, if_neg c_17, if_pos c_22, if_neg c_33, hk1c, hk2c, hwc]
            exact W.iret (v := (-3)) hx hb hr (fun t ht hW => ⟨⟨(-3), σ, rfl, ⟨hqr, hqs⟩, by rw [ht]; exact hP, va_K.moved hW.alike hK, hD⟩, hS.F ht⟩) hS.2.2 dX1_link_38
        · refine lv_iconst (v := (-1)) hx hb dX1_link_25 (by decide) ?_
          have hqr : (-1) = (m_linkM σ p1 p2 p3).1 := by simp only [m_linkM, m_lnk, if_neg c_5, if_neg c_13, if_neg c_17, if_neg c_22]
          have hqs : σ = (m_linkM σ p1 p2 p3).2 := by simp only [m_linkM, m_lnk, if_neg c_5, if_neg c_13, if_neg c_17, if_neg c_22]
          exact W.iret (v := (-1)) hx hb hr (fun t ht hW => ⟨⟨(-1), σ, rfl, ⟨hqr, hqs⟩, by rw [ht]; exact hP, va_K.moved hW.alike hK, hD⟩, hS.F ht⟩) hS.2.2 dX1_link_26

set_option maxHeartbeats 4000000 in
theorem metX1_drop (l : Launch) (dC : Nat → ClassId) (dI : Nat → Nat → Nat) (h0 : Nat) (b : Nat → Nat) (cA : Nat → ClassId) (sz : Nat) (σ : XS) (p1 : Int32) : MetI l yX1_drop (ws_ yX1_drop cX1_drop 3 (some .int)) ({ frames := 1, cells := 0, slots := 0, locals := 21 }) (dC, dI) (tM cA) (wM h0 b cA) h0 [.int p1] sz σ ((m_drop σ p1).1) ((m_drop σ p1).2) := by
  refine Met.ofW (cc := cX1_drop) (maxL := 3) (ret := (some .int)) (by decide) rfl ?_
  intro p e s m args below meth c s₁ B hml hv
  obtain ⟨rfl, hsz, hP, hK, hD0⟩ := hv
  have hx := B.exec
  have hb := B.bytes
  have hr := B.returns
  have hts := atoms_spec (ws := (ws_ yX1_drop cX1_drop 3 (some .int))) B.pre
  have hts : ∀ w ∈ lw_all, w.before _ s = true := fun w h => hts w (List.mem_cons_of_mem _ h)
  have hown : s.vm.findClass RX1 = some m.cls := findClass_of_methodNamed B.named
  have hlocks := B.notSynchronized
  subst hsz
  have hD := hD0.self (sz := s.heap.size)
  generalize hAe : va_A (wM h0 b cA σ) s.heap.size = A at hD ⊢
  have hA : ∀ q : Nat, s.heap.size ≤ q → A q := fun q h => by rw [← hAe]; exact Or.inr h
  have hS : va_S A s.heap s.heap [] := va_S.rf
  have hl := lv_entry ([.ref h0, .int p1]) (n := 3) (Nat.le_of_ble_eq_true rfl)
  rw [lg_entry_eq]
  generalize (lg_sl ([.ref h0, .int p1]) ++ List.replicate (3 - (lg_sl ([.ref h0, .int p1])).length) Slot.unset).toArray = ls at hl ⊢
  have hl : lv_has ls 3 [(0, .ref h0), (1, .int p1)] := hl
  refine lv_aload_n hx hb dX1_drop_0 rfl (lv_at hl 0 rfl) ?_
  refine lv_iload_n hx hb dX1_drop_1 rfl (lv_at hl 1 rfl) ?_
  refine ca_i (D := (dC, dI)) (wf := wM h0 b cA) hx hb hml hown hts (metX1_isHandle l dC dI h0 b cA _ σ p1) (cwV 1 hts (lw_V q234 q236 qs15 q27 q237) rfl rfl rfl (by decide +kernel) ⟨Nat.le_of_ble_eq_true rfl, Nat.le_of_ble_eq_true rfl⟩) hK hP hD hS hA 0 1 rfl rfl rfl hl.1 rfl (lv_room (Nat.le_of_ble_eq_true rfl)) dX1_drop_2 ⟨Nat.le_of_ble_eq_true rfl, Nat.le_of_ble_eq_true rfl⟩ (fun H locs hP hD hS => ?_)
  refine lv_if_ne (tgt := 10) hx hb dX1_drop_5 (by decide) (fun c_5 => ?_) (fun c_5 => ?_)
  · obtain ⟨k, hk, rfl⟩ := isH_in c_5
    have hkc : (nI k).toNatClampNeg = k := nI_clamp (by omega)
    refine lv_aload_n hx hb dX1_drop_10 rfl (lv_at hl 0 rfl) ?_
    refine lv_aload_n hx hb dX1_drop_11 rfl (lv_at hl 0 rfl) ?_
    refine va_get (D := (dC, dI)) (ci := 1) (v := .ref (b 3)) (C := RX1) (T := TX1) (N := 7) hx hb hts in_X1 hown hK hP 0 rfl rfl 3 (by decide) (hts _ q211) (fun _ h9 => h9) rfl dX1_drop_12 ?_
    refine lv_iload_n hx hb dX1_drop_15 rfl (lv_at hl 1 rfl) ?_
    refine xa_iald (D := (dC, dI)) (f := σ.2 3) hx hb hK hP 3 2 rfl rfl k rfl (by omega) (by decide) dX1_drop_16 ?_
    refine ca_i (D := (dC, dI)) (wf := wM h0 b cA) hx hb hml hown hts (metX1_leads l dC dI h0 b cA _ σ (σ.2 3 k)) (cwV 1 hts (lw_V q262 q264 qs21 q27 q265) rfl rfl rfl (by decide +kernel) ⟨Nat.le_of_ble_eq_true rfl, Nat.le_of_ble_eq_true rfl⟩) hK hP hD hS hA 0 1 rfl rfl rfl hl.1 rfl (lv_room (Nat.le_of_ble_eq_true rfl)) dX1_drop_17 ⟨Nat.le_of_ble_eq_true rfl, Nat.le_of_ble_eq_true rfl⟩ (fun H locs hP hD hS => ?_)
    refine lv_istore_n (lv' := [(2, .int (leads (σ.2 3 k))), (0, .ref h0), (1, .int (nI k))]) hx hb dX1_drop_20 rfl hl (by decide) rfl (fun ls hl => ?_)
    refine lv_aload_n hx hb dX1_drop_21 rfl (lv_at hl 1 rfl) ?_
    refine va_get (D := (dC, dI)) (ci := 1) (v := .ref (b 3)) (C := RX1) (T := TX1) (N := 7) hx hb hts in_X1 hown hK hP 0 rfl rfl 3 (by decide) (hts _ q211) (fun _ h9 => h9) rfl dX1_drop_22 ?_
    refine lv_iload_n hx hb dX1_drop_25 rfl (lv_at hl 2 rfl) ?_
    refine lv_iconst (v := (-1)) hx hb dX1_drop_26 (by decide) ?_
    refine xa_iast (D := (dC, dI)) (f := σ.2 3) hx hb hK hP hD hS 3 2 rfl rfl k rfl (by omega) (by decide) dX1_drop_27 (fun H locs hP hD hS => ?_)
    have hP : va_P (dC, dI) vwCl (wM h0 b cA (setA σ 3 k (-1))) H := hP
    have hD : va_D A (wM h0 b cA (setA σ 3 k (-1))) := hD
    refine lv_iload_n hx hb dX1_drop_28 rfl (lv_at hl 0 rfl) ?_
    have hqr : leads (σ.2 3 k) = (m_drop σ (nI k)).1 := by simp only [m_drop, if_neg c_5, hkc]
    have hqs : setA σ 3 k (-1) = (m_drop σ (nI k)).2 := by simp only [m_drop, if_neg c_5, hkc]
    exact W.iret (v := leads (σ.2 3 k)) hx hb hr (fun t ht hW => ⟨⟨leads (σ.2 3 k), (setA σ 3 k (-1)), rfl, ⟨hqr, hqs⟩, by rw [ht]; exact hP, va_K.moved hW.alike hK, hD⟩, hS.F ht⟩) hS.2.2 dX1_drop_29
  · refine lv_iconst (v := (-1)) hx hb dX1_drop_8 (by decide) ?_
    have hqr : (-1) = (m_drop σ p1).1 := by simp only [m_drop, if_pos c_5]
    have hqs : σ = (m_drop σ p1).2 := by simp only [m_drop, if_pos c_5]
    exact W.iret (v := (-1)) hx hb hr (fun t ht hW => ⟨⟨(-1), σ, rfl, ⟨hqr, hqs⟩, by rw [ht]; exact hP, va_K.moved hW.alike hK, hD⟩, hS.F ht⟩) hS.2.2 dX1_drop_9

set_option maxHeartbeats 4000000 in
theorem metX1_value (l : Launch) (dC : Nat → ClassId) (dI : Nat → Nat → Nat) (h0 : Nat) (b : Nat → Nat) (cA : Nat → ClassId) (sz : Nat) (σ : XS) (p1 : Int32) (hok : okM σ) : MetI l yX1_value (ws_ yX1_value cX1_value 2 (some .int)) ({ frames := 1, cells := 0, slots := 0, locals := 21 }) (dC, dI) (tM cA) (wM h0 b cA) h0 [.int p1] sz σ (m_value σ p1) σ := by
  refine Met.ofW (cc := cX1_value) (maxL := 2) (ret := (some .int)) (by decide) rfl ?_
  intro p e s m args below meth c s₁ B hml hv
  obtain ⟨rfl, hsz, hP, hK, hD0⟩ := hv
  have hx := B.exec
  have hb := B.bytes
  have hr := B.returns
  have hts := atoms_spec (ws := (ws_ yX1_value cX1_value 2 (some .int))) B.pre
  have hts : ∀ w ∈ lw_all, w.before _ s = true := fun w h => hts w (List.mem_cons_of_mem _ h)
  have hown : s.vm.findClass RX1 = some m.cls := findClass_of_methodNamed B.named
  have hlocks := B.notSynchronized
  subst hsz
  have hD := hD0.self (sz := s.heap.size)
  generalize hAe : va_A (wM h0 b cA σ) s.heap.size = A at hD ⊢
  have hA : ∀ q : Nat, s.heap.size ≤ q → A q := fun q h => by rw [← hAe]; exact Or.inr h
  have hS : va_S A s.heap s.heap [] := va_S.rf
  have hl := lv_entry ([.ref h0, .int p1]) (n := 2) (Nat.le_of_ble_eq_true rfl)
  rw [lg_entry_eq]
  generalize (lg_sl ([.ref h0, .int p1]) ++ List.replicate (2 - (lg_sl ([.ref h0, .int p1])).length) Slot.unset).toArray = ls at hl ⊢
  have hl : lv_has ls 2 [(0, .ref h0), (1, .int p1)] := hl
  refine lv_aload_n hx hb dX1_value_0 rfl (lv_at hl 0 rfl) ?_
  refine lv_iload_n hx hb dX1_value_1 rfl (lv_at hl 1 rfl) ?_
  refine ca_i (D := (dC, dI)) (wf := wM h0 b cA) hx hb hml hown hts (metX1_isHandle l dC dI h0 b cA _ σ p1) (cwV 1 hts (lw_V q234 q236 qs15 q27 q237) rfl rfl rfl (by decide +kernel) ⟨Nat.le_of_ble_eq_true rfl, Nat.le_of_ble_eq_true rfl⟩) hK hP hD hS hA 0 1 rfl rfl rfl hl.1 rfl (lv_room (Nat.le_of_ble_eq_true rfl)) dX1_value_2 ⟨Nat.le_of_ble_eq_true rfl, Nat.le_of_ble_eq_true rfl⟩ (fun H locs hP hD hS => ?_)
  refine lv_if_eq (tgt := 31) hx hb dX1_value_5 (by decide) (fun c_5 => ?_) (fun c_5 => ?_)
  · refine lv_iconst (v := 0) hx hb dX1_value_31 (by decide) ?_
    have hqr : 0 = m_value σ p1 := by simp only [m_value, if_pos c_5]
    have hqs : σ = σ := rfl
    exact W.iret (v := 0) hx hb hr (fun t ht hW => ⟨⟨0, σ, rfl, ⟨hqr, hqs⟩, by rw [ht]; exact hP, va_K.moved hW.alike hK, hD⟩, hS.F ht⟩) hS.2.2 dX1_value_32
  · obtain ⟨k, hk, rfl⟩ := isH_in c_5
    have hkc : (nI k).toNatClampNeg = k := nI_clamp (by omega)
    refine lv_aload_n hx hb dX1_value_8 rfl (lv_at hl 0 rfl) ?_
    refine va_get (D := (dC, dI)) (ci := 1) (v := .ref (b 3)) (C := RX1) (T := TX1) (N := 7) hx hb hts in_X1 hown hK hP 0 rfl rfl 3 (by decide) (hts _ q211) (fun _ h9 => h9) rfl dX1_value_9 ?_
    refine lv_iload_n hx hb dX1_value_12 rfl (lv_at hl 1 rfl) ?_
    refine xa_iald (D := (dC, dI)) (f := σ.2 3) hx hb hK hP 3 2 rfl rfl k rfl (by omega) (by decide) dX1_value_13 ?_
    refine lv_if_lt (tgt := 31) hx hb dX1_value_14 (by decide) (fun c_14 => ?_) (fun c_14 => ?_)
    · refine lv_iconst (v := 0) hx hb dX1_value_31 (by decide) ?_
      have hqr : 0 = m_value σ (nI k) := by simp only [m_value, if_neg c_5, if_pos c_14, hkc]
      have hqs : σ = σ := rfl
      exact W.iret (v := 0) hx hb hr (fun t ht hW => ⟨⟨0, σ, rfl, ⟨hqr, hqs⟩, by rw [ht]; exact hP, va_K.moved hW.alike hK, hD⟩, hS.F ht⟩) hS.2.2 dX1_value_32
    · obtain ⟨j, hj, ej⟩ := okv_nl (hok.2.2.1 k) c_14
      rw [ej] at c_14
      have hjc : (nI j).toNatClampNeg = j := nI_clamp (by omega)
      refine lv_aload_n hx hb dX1_value_17 rfl (lv_at hl 0 rfl) ?_
      refine va_get (D := (dC, dI)) (ci := 1) (v := .ref (b 0)) (C := RX1) (T := TX1) (N := 7) hx hb hts in_X1 hown hK hP 0 rfl rfl 0 (by decide) (hts _ q208) (fun _ h9 => h9) rfl dX1_value_18 ?_
      refine lv_aload_n hx hb dX1_value_21 rfl (lv_at hl 0 rfl) ?_
      refine va_get (D := (dC, dI)) (ci := 1) (v := .ref (b 3)) (C := RX1) (T := TX1) (N := 7) hx hb hts in_X1 hown hK hP 0 rfl rfl 3 (by decide) (hts _ q211) (fun _ h9 => h9) rfl dX1_value_22 ?_
      refine lv_iload_n hx hb dX1_value_25 rfl (lv_at hl 1 rfl) ?_
      refine xa_iald (D := (dC, dI)) (f := σ.2 3) hx hb hK hP 3 2 rfl rfl k rfl (by omega) (by decide) dX1_value_26 ?_
      refine lv_tope (ej) ?_
      refine xa_iald (D := (dC, dI)) (f := σ.2 0) hx hb hK hP 1 0 rfl rfl j rfl (by omega) (by decide) dX1_value_27 ?_
      refine lv_goto (tgt := 32) hx hb dX1_value_28 (by decide) ?_
      have hqr : σ.2 0 j = m_value σ (nI k) := by simp only [m_value, if_neg c_5, if_neg c_14, hkc, ej, hjc]
      have hqs : σ = σ := rfl
      exact W.iret (v := σ.2 0 j) hx hb hr (fun t ht hW => ⟨⟨σ.2 0 j, σ, rfl, ⟨hqr, hqs⟩, by rw [ht]; exact hP, va_K.moved hW.alike hK, hD⟩, hS.F ht⟩) hS.2.2 dX1_value_32

set_option maxHeartbeats 4000000 in
theorem metX1_setValue (l : Launch) (dC : Nat → ClassId) (dI : Nat → Nat → Nat) (h0 : Nat) (b : Nat → Nat) (cA : Nat → ClassId) (sz : Nat) (σ : XS) (p1 : Int32) (p2 : Int32) (hok : okM σ) : MetI l yX1_setValue (ws_ yX1_setValue cX1_setValue 3 (some .int)) ({ frames := 1, cells := 0, slots := 0, locals := 21 }) (dC, dI) (tM cA) (wM h0 b cA) h0 [.int p1, .int p2] sz σ ((m_setValue σ p1 p2).1) ((m_setValue σ p1 p2).2) := by
  refine Met.ofW (cc := cX1_setValue) (maxL := 3) (ret := (some .int)) (by decide) rfl ?_
  intro p e s m args below meth c s₁ B hml hv
  obtain ⟨rfl, hsz, hP, hK, hD0⟩ := hv
  have hx := B.exec
  have hb := B.bytes
  have hr := B.returns
  have hts := atoms_spec (ws := (ws_ yX1_setValue cX1_setValue 3 (some .int))) B.pre
  have hts : ∀ w ∈ lw_all, w.before _ s = true := fun w h => hts w (List.mem_cons_of_mem _ h)
  have hown : s.vm.findClass RX1 = some m.cls := findClass_of_methodNamed B.named
  have hlocks := B.notSynchronized
  subst hsz
  have hD := hD0.self (sz := s.heap.size)
  generalize hAe : va_A (wM h0 b cA σ) s.heap.size = A at hD ⊢
  have hA : ∀ q : Nat, s.heap.size ≤ q → A q := fun q h => by rw [← hAe]; exact Or.inr h
  have hS : va_S A s.heap s.heap [] := va_S.rf
  have hl := lv_entry ([.ref h0, .int p1, .int p2]) (n := 3) (Nat.le_of_ble_eq_true rfl)
  rw [lg_entry_eq]
  generalize (lg_sl ([.ref h0, .int p1, .int p2]) ++ List.replicate (3 - (lg_sl ([.ref h0, .int p1, .int p2])).length) Slot.unset).toArray = ls at hl ⊢
  have hl : lv_has ls 3 [(0, .ref h0), (1, .int p1), (2, .int p2)] := hl
  refine lv_aload_n hx hb dX1_setValue_0 rfl (lv_at hl 0 rfl) ?_
  refine lv_iload_n hx hb dX1_setValue_1 rfl (lv_at hl 1 rfl) ?_
  refine ca_i (D := (dC, dI)) (wf := wM h0 b cA) hx hb hml hown hts (metX1_isHandle l dC dI h0 b cA _ σ p1) (cwV 1 hts (lw_V q234 q236 qs15 q27 q237) rfl rfl rfl (by decide +kernel) ⟨Nat.le_of_ble_eq_true rfl, Nat.le_of_ble_eq_true rfl⟩) hK hP hD hS hA 0 1 rfl rfl rfl hl.1 rfl (lv_room (Nat.le_of_ble_eq_true rfl)) dX1_setValue_2 ⟨Nat.le_of_ble_eq_true rfl, Nat.le_of_ble_eq_true rfl⟩ (fun H locs hP hD hS => ?_)
  refine lv_if_ne (tgt := 10) hx hb dX1_setValue_5 (by decide) (fun c_5 => ?_) (fun c_5 => ?_)
  · obtain ⟨k, hk, rfl⟩ := isH_in c_5
    have hkc : (nI k).toNatClampNeg = k := nI_clamp (by omega)
    refine lv_aload_n hx hb dX1_setValue_10 rfl (lv_at hl 0 rfl) ?_
    refine va_get (D := (dC, dI)) (ci := 1) (v := .ref (b 3)) (C := RX1) (T := TX1) (N := 7) hx hb hts in_X1 hown hK hP 0 rfl rfl 3 (by decide) (hts _ q211) (fun _ h9 => h9) rfl dX1_setValue_11 ?_
    refine lv_iload_n hx hb dX1_setValue_14 rfl (lv_at hl 1 rfl) ?_
    refine xa_iald (D := (dC, dI)) (f := σ.2 3) hx hb hK hP 3 2 rfl rfl k rfl (by omega) (by decide) dX1_setValue_15 ?_
    refine lv_if_ge (tgt := 22) hx hb dX1_setValue_16 (by decide) (fun c_16 => ?_) (fun c_16 => ?_)
    · obtain ⟨j, hj, ej⟩ := okv_nn (hok.2.2.1 k) c_16
      rw [ej] at c_16
      have hjc : (nI j).toNatClampNeg = j := nI_clamp (by omega)
      refine lv_aload_n hx hb dX1_setValue_22 rfl (lv_at hl 0 rfl) ?_
      refine va_get (D := (dC, dI)) (ci := 1) (v := .ref (b 0)) (C := RX1) (T := TX1) (N := 7) hx hb hts in_X1 hown hK hP 0 rfl rfl 0 (by decide) (hts _ q208) (fun _ h9 => h9) rfl dX1_setValue_23 ?_
      refine lv_aload_n hx hb dX1_setValue_26 rfl (lv_at hl 0 rfl) ?_
      refine va_get (D := (dC, dI)) (ci := 1) (v := .ref (b 3)) (C := RX1) (T := TX1) (N := 7) hx hb hts in_X1 hown hK hP 0 rfl rfl 3 (by decide) (hts _ q211) (fun _ h9 => h9) rfl dX1_setValue_27 ?_
      refine lv_iload_n hx hb dX1_setValue_30 rfl (lv_at hl 1 rfl) ?_
      refine xa_iald (D := (dC, dI)) (f := σ.2 3) hx hb hK hP 3 2 rfl rfl k rfl (by omega) (by decide) dX1_setValue_31 ?_
      refine lv_tope (ej) ?_
      refine lv_iload_n hx hb dX1_setValue_32 rfl (lv_at hl 2 rfl) ?_
      refine xa_iast (D := (dC, dI)) (f := σ.2 0) hx hb hK hP hD hS 1 0 rfl rfl j rfl (by omega) (by decide) dX1_setValue_33 (fun H locs hP hD hS => ?_)
      have hP : va_P (dC, dI) vwCl (wM h0 b cA (setA σ 0 j p2)) H := hP
      have hD : va_D A (wM h0 b cA (setA σ 0 j p2)) := hD
      refine lv_iconst (v := 1) hx hb dX1_setValue_34 (by decide) ?_
      have hqr : 1 = (m_setValue σ (nI k) p2).1 := by simp only [m_setValue, if_neg c_5, if_pos c_16, hkc, ej, hjc]
      have hqs : setA σ 0 j p2 = (m_setValue σ (nI k) p2).2 := by simp only [m_setValue, if_neg c_5, if_pos c_16, hkc, ej, hjc]
      exact W.iret (v := 1) hx hb hr (fun t ht hW => ⟨⟨1, (setA σ 0 j p2), rfl, ⟨hqr, hqs⟩, by rw [ht]; exact hP, va_K.moved hW.alike hK, hD⟩, hS.F ht⟩) hS.2.2 dX1_setValue_35
    · refine lv_bipush (v := (-3)) hx hb dX1_setValue_19 (by decide) ?_
      have hqr : (-3) = (m_setValue σ (nI k) p2).1 := by simp only [m_setValue, if_neg c_5, if_neg c_16, hkc]
      have hqs : σ = (m_setValue σ (nI k) p2).2 := by simp only [m_setValue, if_neg c_5, if_neg c_16, hkc]
      exact W.iret (v := (-3)) hx hb hr (fun t ht hW => ⟨⟨(-3), σ, rfl, ⟨hqr, hqs⟩, by rw [ht]; exact hP, va_K.moved hW.alike hK, hD⟩, hS.F ht⟩) hS.2.2 dX1_setValue_21
  · refine lv_iconst (v := (-1)) hx hb dX1_setValue_8 (by decide) ?_
    have hqr : (-1) = (m_setValue σ p1 p2).1 := by simp only [m_setValue, if_pos c_5]
    have hqs : σ = (m_setValue σ p1 p2).2 := by simp only [m_setValue, if_pos c_5]
    exact W.iret (v := (-1)) hx hb hr (fun t ht hW => ⟨⟨(-1), σ, rfl, ⟨hqr, hqs⟩, by rw [ht]; exact hP, va_K.moved hW.alike hK, hD⟩, hS.F ht⟩) hS.2.2 dX1_setValue_9

set_option maxHeartbeats 4000000 in
theorem metX1_same (l : Launch) (dC : Nat → ClassId) (dI : Nat → Nat → Nat) (h0 : Nat) (b : Nat → Nat) (cA : Nat → ClassId) (sz : Nat) (σ : XS) (p1 : Int32) (p2 : Int32) : MetI l yX1_same (ws_ yX1_same cX1_same 3 (some .boolean)) ({ frames := 1, cells := 0, slots := 0, locals := 21 }) (dC, dI) (tM cA) (wM h0 b cA) h0 [.int p1, .int p2] sz σ (sameH (σ.2 3) p1 p2) σ := by
  refine Met.ofW (cc := cX1_same) (maxL := 3) (ret := (some .boolean)) (by decide) rfl ?_
  intro p e s m args below meth c s₁ B hml hv
  obtain ⟨rfl, hsz, hP, hK, hD0⟩ := hv
  have hx := B.exec
  have hb := B.bytes
  have hr := B.returns
  have hts := atoms_spec (ws := (ws_ yX1_same cX1_same 3 (some .boolean))) B.pre
  have hts : ∀ w ∈ lw_all, w.before _ s = true := fun w h => hts w (List.mem_cons_of_mem _ h)
  have hown : s.vm.findClass RX1 = some m.cls := findClass_of_methodNamed B.named
  have hlocks := B.notSynchronized
  subst hsz
  have hD := hD0.self (sz := s.heap.size)
  generalize hAe : va_A (wM h0 b cA σ) s.heap.size = A at hD ⊢
  have hA : ∀ q : Nat, s.heap.size ≤ q → A q := fun q h => by rw [← hAe]; exact Or.inr h
  have hS : va_S A s.heap s.heap [] := va_S.rf
  have hl := lv_entry ([.ref h0, .int p1, .int p2]) (n := 3) (Nat.le_of_ble_eq_true rfl)
  rw [lg_entry_eq]
  generalize (lg_sl ([.ref h0, .int p1, .int p2]) ++ List.replicate (3 - (lg_sl ([.ref h0, .int p1, .int p2])).length) Slot.unset).toArray = ls at hl ⊢
  have hl : lv_has ls 3 [(0, .ref h0), (1, .int p1), (2, .int p2)] := hl
  refine lv_aload_n hx hb dX1_same_0 rfl (lv_at hl 0 rfl) ?_
  refine lv_iload_n hx hb dX1_same_1 rfl (lv_at hl 1 rfl) ?_
  refine ca_i (D := (dC, dI)) (wf := wM h0 b cA) hx hb hml hown hts (metX1_isHandle l dC dI h0 b cA _ σ p1) (cwV 1 hts (lw_V q234 q236 qs15 q27 q237) rfl rfl rfl (by decide +kernel) ⟨Nat.le_of_ble_eq_true rfl, Nat.le_of_ble_eq_true rfl⟩) hK hP hD hS hA 0 1 rfl rfl rfl hl.1 rfl (lv_room (Nat.le_of_ble_eq_true rfl)) dX1_same_2 ⟨Nat.le_of_ble_eq_true rfl, Nat.le_of_ble_eq_true rfl⟩ (fun H locs hP hD hS => ?_)
  refine lv_if_eq (tgt := 44) hx hb dX1_same_5 (by decide) (fun c_5 => ?_) (fun c_5 => ?_)
  · refine lv_iconst (v := 0) hx hb dX1_same_44 (by decide) ?_
    have hqr : 0 = sameH (σ.2 3) p1 p2 := by simp only [sameH, if_pos c_5]
    have hqs : σ = σ := rfl
    exact W.zret (v := 0) hx hb hr rfl (fun t ht hW => ⟨⟨0, σ, rfl, ⟨hqr, hqs⟩, by rw [ht]; exact hP, va_K.moved hW.alike hK, hD⟩, hS.F ht⟩) hS.2.2 dX1_same_45
  · refine lv_aload_n hx hb dX1_same_8 rfl (lv_at hl 0 rfl) ?_
    refine lv_iload_n hx hb dX1_same_9 rfl (lv_at hl 2 rfl) ?_
    refine ca_i (D := (dC, dI)) (wf := wM h0 b cA) hx hb hml hown hts (metX1_isHandle l dC dI h0 b cA _ σ p2) (cwV 1 hts (lw_V q234 q236 qs15 q27 q237) rfl rfl rfl (by decide +kernel) ⟨Nat.le_of_ble_eq_true rfl, Nat.le_of_ble_eq_true rfl⟩) hK hP hD hS hA 0 1 rfl rfl rfl hl.1 rfl (lv_room (Nat.le_of_ble_eq_true rfl)) dX1_same_10 ⟨Nat.le_of_ble_eq_true rfl, Nat.le_of_ble_eq_true rfl⟩ (fun H locs hP hD hS => ?_)
    refine lv_if_eq (tgt := 44) hx hb dX1_same_13 (by decide) (fun c_13 => ?_) (fun c_13 => ?_)
    · refine lv_iconst (v := 0) hx hb dX1_same_44 (by decide) ?_
      have hqr : 0 = sameH (σ.2 3) p1 p2 := by simp only [sameH, if_neg c_5, if_pos c_13]
      have hqs : σ = σ := rfl
      exact W.zret (v := 0) hx hb hr rfl (fun t ht hW => ⟨⟨0, σ, rfl, ⟨hqr, hqs⟩, by rw [ht]; exact hP, va_K.moved hW.alike hK, hD⟩, hS.F ht⟩) hS.2.2 dX1_same_45
    · obtain ⟨k1, hk1, rfl⟩ := isH_in c_5
      obtain ⟨k2, hk2, rfl⟩ := isH_in c_13
      have hk1c : (nI k1).toNatClampNeg = k1 := nI_clamp (by omega)
      have hk2c : (nI k2).toNatClampNeg = k2 := nI_clamp (by omega)
      refine lv_aload_n hx hb dX1_same_16 rfl (lv_at hl 0 rfl) ?_
      refine va_get (D := (dC, dI)) (ci := 1) (v := .ref (b 3)) (C := RX1) (T := TX1) (N := 7) hx hb hts in_X1 hown hK hP 0 rfl rfl 3 (by decide) (hts _ q211) (fun _ h9 => h9) rfl dX1_same_17 ?_
      refine lv_iload_n hx hb dX1_same_20 rfl (lv_at hl 1 rfl) ?_
      refine xa_iald (D := (dC, dI)) (f := σ.2 3) hx hb hK hP 3 2 rfl rfl k1 rfl (by omega) (by decide) dX1_same_21 ?_
      refine lv_if_lt (tgt := 44) hx hb dX1_same_22 (by decide) (fun c_22 => ?_) (fun c_22 => ?_)
      · refine lv_iconst (v := 0) hx hb dX1_same_44 (by decide) ?_
        have hqr : 0 = sameH (σ.2 3) (nI k1) (nI k2) := by simp only [sameH, if_neg c_5, if_neg c_13, if_pos c_22, hk1c, hk2c]
        have hqs : σ = σ := rfl
        exact W.zret (v := 0) hx hb hr rfl (fun t ht hW => ⟨⟨0, σ, rfl, ⟨hqr, hqs⟩, by rw [ht]; exact hP, va_K.moved hW.alike hK, hD⟩, hS.F ht⟩) hS.2.2 dX1_same_45
      · refine lv_aload_n hx hb dX1_same_25 rfl (lv_at hl 0 rfl) ?_
        refine va_get (D := (dC, dI)) (ci := 1) (v := .ref (b 3)) (C := RX1) (T := TX1) (N := 7) hx hb hts in_X1 hown hK hP 0 rfl rfl 3 (by decide) (hts _ q211) (fun _ h9 => h9) rfl dX1_same_26 ?_
        refine lv_iload_n hx hb dX1_same_29 rfl (lv_at hl 1 rfl) ?_
        refine xa_iald (D := (dC, dI)) (f := σ.2 3) hx hb hK hP 3 2 rfl rfl k1 rfl (by omega) (by decide) dX1_same_30 ?_
        refine lv_aload_n hx hb dX1_same_31 rfl (lv_at hl 0 rfl) ?_
        refine va_get (D := (dC, dI)) (ci := 1) (v := .ref (b 3)) (C := RX1) (T := TX1) (N := 7) hx hb hts in_X1 hown hK hP 0 rfl rfl 3 (by decide) (hts _ q211) (fun _ h9 => h9) rfl dX1_same_32 ?_
        refine lv_iload_n hx hb dX1_same_35 rfl (lv_at hl 2 rfl) ?_
        refine xa_iald (D := (dC, dI)) (f := σ.2 3) hx hb hK hP 3 2 rfl rfl k2 rfl (by omega) (by decide) dX1_same_36 ?_
        refine lv_icmp_ne (tgt := 44) hx hb dX1_same_37 (by decide) (fun c_37 => ?_) (fun c_37 => ?_)
        · refine lv_iconst (v := 0) hx hb dX1_same_44 (by decide) ?_
          have hqr : 0 = sameH (σ.2 3) (nI k1) (nI k2) := by simp only [sameH, if_neg c_5, if_neg c_13, if_neg c_22, if_neg c_37, hk1c, hk2c]
          have hqs : σ = σ := rfl
          exact W.zret (v := 0) hx hb hr rfl (fun t ht hW => ⟨⟨0, σ, rfl, ⟨hqr, hqs⟩, by rw [ht]; exact hP, va_K.moved hW.alike hK, hD⟩, hS.F ht⟩) hS.2.2 dX1_same_45
        · refine lv_iconst (v := 1) hx hb dX1_same_40 (by decide) ?_
          refine lv_goto (tgt := 45) hx hb dX1_same_41 (by decide) ?_
          have hqr : 1 = sameH (σ.2 3) (nI k1) (nI k2) := by simp only [sameH, if_neg c_5, if_neg c_13, if_neg c_22, if_pos c_37, hk1c, hk2c]
          have hqs : σ = σ := rfl
          exact W.zret (v := 1) hx hb hr rfl (fun t ht hW => ⟨⟨1, σ, rfl, ⟨hqr, hqs⟩, by rw [ht]; exact hP, va_K.moved hW.alike hK, hD⟩, hS.F ht⟩) hS.2.2 dX1_same_45

set_option maxHeartbeats 4000000 in
theorem lpX1_make_18 {p : Program} {l : Launch} {e : Env} {s : State} {m : MethodId} {below : List Frame} {meth : Method} {c : Code} {args : Array Value} {Q : State → Prop} {dC : Nat → ClassId} {dI : Nat → Nat → Nat} {A : Nat → Prop} {h0 : Nat} {b : Nat → Nat} {cA : Nat → ClassId} (hx : p.tables.exec = Jvm.exec) (hb : c.code = cX1_make) (hml : c.maxLocals = 5) (hown : s.vm.findClass RX1 = some m.cls) (hts : ∀ w ∈ lw_all, w.before args s = true) (hA : ∀ q : Nat, s.heap.size ≤ q → A q) (hK : va_K (dC, dI) vwCl (tM cA) s) (a1 a2 z : Int32) (σ : XS) :
    ∀ (n i : Nat), i + n = 12 → ∀ (H : Heap) (locs : List Loc), va_P (dC, dI) vwCl (wM h0 b cA σ) H → va_D A (wM h0 b cA σ) → va_S A s.heap H locs → ∀ (ls : Array Slot), lv_has ls 5 [(0, .ref h0), (1, .int a1), (2, .int a2), (3, .int z), (4, .int (nI i))] →
    (mfr z n i < 12 → ∀ (H : Heap) (locs : List Loc), va_P (dC, dI) vwCl (wM h0 b cA σ) H → va_D A (wM h0 b cA σ) → va_S A s.heap H locs → ∀ (ls : Array Slot), lv_has ls 5 [(0, .ref h0), (1, .int a1), (2, .int a2), (4, .int (nI (mfr z n i)))] → W p l e (headSpec (ws_ yX1_make cX1_make 5 (some .int)) ({ frames := 4, cells := 0, slots := 0, locals := 91 })).room s m args below meth c H locs 0 0 Q (F0 m 35 ls [])) → (¬ mfr z n i < 12 → ∀ (H : Heap) (locs : List Loc), va_P (dC, dI) vwCl (wM h0 b cA σ) H → va_D A (wM h0 b cA σ) → va_S A s.heap H locs → ∀ (ls : Array Slot), lv_has ls 5 [(0, .ref h0)] → W p l e (headSpec (ws_ yX1_make cX1_make 5 (some .int)) ({ frames := 4, cells := 0, slots := 0, locals := 91 })).room s m args below meth c H locs 0 0 Q (F0 m 81 ls [])) → W p l e (headSpec (ws_ yX1_make cX1_make 5 (some .int)) ({ frames := 4, cells := 0, slots := 0, locals := 91 })).room s m args below meth c H locs 0 0 Q (F0 m 18 ls []) := by
  intro n
  induction n with
  | zero =>
    intro i hin H locs hP hD hS ls hl hk1 hk2
    obtain rfl : i = 12 := by omega
    refine lv_iload hx hb dX1_make_18 (lv_at hl 4 rfl) ?_
    refine lv_bipush (v := 12) hx hb dX1_make_20 (by decide) ?_
    refine lv_icmp_ge (tgt := 81) hx hb dX1_make_22 (by decide) (fun c_22 => ?_) (fun c_22 => ?_)
    · exact hk2 (Nat.lt_irrefl 12) _ _ hP hD hS ls (lv_sub hl [0] rfl)
    · exact absurd (by decide +kernel) c_22
  | succ n ih =>
    intro i hin H locs hP hD hS ls hl hk1 hk2
    have hi : i < 12 := by omega
    refine lv_iload hx hb dX1_make_18 (lv_at hl 4 rfl) ?_
    refine lv_bipush (v := 12) hx hb dX1_make_20 (by decide) ?_
    refine lv_icmp_ge (tgt := 81) hx hb dX1_make_22 (by decide) (fun c_22 => ?_) (fun c_22 => ?_)
    · exact absurd c_22 (nI_ge (b := 12) (by omega) (by decide))
    · refine lv_aload_n hx hb dX1_make_25 rfl (lv_at hl 0 rfl) ?_
      refine lv_iload_n hx hb dX1_make_26 rfl (lv_at hl 3 rfl) ?_
      refine lv_iload hx hb dX1_make_27 (lv_at hl 4 rfl) ?_
      refine ca_i (D := (dC, dI)) (wf := wM h0 b cA) hx hb hml hown hts (metX1_in l dC dI h0 b cA _ σ z i) (cwV 2 hts (lw_V q250 q252 qs19 q27 q253) rfl rfl rfl (by decide +kernel) ⟨Nat.le_of_ble_eq_true rfl, Nat.le_of_ble_eq_true rfl⟩) hK hP hD hS hA 0 1 rfl rfl rfl hl.1 rfl (lv_room (Nat.le_of_ble_eq_true rfl)) dX1_make_29 ⟨Nat.le_of_ble_eq_true rfl, Nat.le_of_ble_eq_true rfl⟩ (fun H locs hP hD hS => ?_)
      refine lv_if_ne (tgt := 75) hx hb dX1_make_32 (by decide) (fun c_32 => ?_) (fun c_32 => ?_)
      · refine lv_iinc (v := nI (i + 1)) (lv' := [(4, .int (nI (i + 1))), (0, .ref h0), (1, .int a1), (2, .int a2), (3, .int z)]) hx hb dX1_make_75 hl (k := 4) rfl (nI_1 _) (by decide) rfl (fun ls hl => ?_)
        refine lv_goto (tgt := 18) hx hb dX1_make_78 (by decide) ?_
        rw [show mfr z (n + 1) i = mfr z n (i + 1) from by simp only [mfr, if_neg c_32]] at hk1 hk2
        exact ih (i + 1) (by omega) _ _ hP hD hS ls (lv_sub hl [1, 2, 3, 4, 0] rfl) hk1 hk2
      · rw [show mfr z (n + 1) i = i from by simp only [mfr, if_pos c_32]] at hk1
        exact hk1 hi _ _ hP hD hS ls (lv_sub hl [0, 1, 2, 4] rfl)

set_option maxHeartbeats 4000000 in
theorem metX1_make (l : Launch) (dC : Nat → ClassId) (dI : Nat → Nat → Nat) (h0 : Nat) (b : Nat → Nat) (cA : Nat → ClassId) (sz : Nat) (σ : XS) (p1 : Int32) (p2 : Int32) : MetI l yX1_make (ws_ yX1_make cX1_make 5 (some .int)) ({ frames := 4, cells := 0, slots := 0, locals := 91 }) (dC, dI) (tM cA) (wM h0 b cA) h0 [.int p1, .int p2] sz σ ((m_make σ p1 p2).1) ((m_make σ p1 p2).2) := by
  refine Met.ofW (cc := cX1_make) (maxL := 5) (ret := (some .int)) (by decide) rfl ?_
  intro p e s m args below meth c s₁ B hml hv
  obtain ⟨rfl, hsz, hP, hK, hD0⟩ := hv
  have hx := B.exec
  have hb := B.bytes
  have hr := B.returns
  have hts := atoms_spec (ws := (ws_ yX1_make cX1_make 5 (some .int))) B.pre
  have hts : ∀ w ∈ lw_all, w.before _ s = true := fun w h => hts w (List.mem_cons_of_mem _ h)
  have hown : s.vm.findClass RX1 = some m.cls := findClass_of_methodNamed B.named
  have hlocks := B.notSynchronized
  subst hsz
  have hD := hD0.self (sz := s.heap.size)
  generalize hAe : va_A (wM h0 b cA σ) s.heap.size = A at hD ⊢
  have hA : ∀ q : Nat, s.heap.size ≤ q → A q := fun q h => by rw [← hAe]; exact Or.inr h
  have hS : va_S A s.heap s.heap [] := va_S.rf
  have hl := lv_entry ([.ref h0, .int p1, .int p2]) (n := 5) (Nat.le_of_ble_eq_true rfl)
  rw [lg_entry_eq]
  generalize (lg_sl ([.ref h0, .int p1, .int p2]) ++ List.replicate (5 - (lg_sl ([.ref h0, .int p1, .int p2])).length) Slot.unset).toArray = ls at hl ⊢
  have hl : lv_has ls 5 [(0, .ref h0), (1, .int p1), (2, .int p2)] := hl
  refine lv_aload_n hx hb dX1_make_0 rfl (lv_at hl 0 rfl) ?_
  refine lv_iload_n hx hb dX1_make_1 rfl (lv_at hl 1 rfl) ?_
  refine ca_i (D := (dC, dI)) (wf := wM h0 b cA) hx hb hml hown hts (metX1_isHandle l dC dI h0 b cA _ σ p1) (cwV 1 hts (lw_V q234 q236 qs15 q27 q237) rfl rfl rfl (by decide +kernel) ⟨Nat.le_of_ble_eq_true rfl, Nat.le_of_ble_eq_true rfl⟩) hK hP hD hS hA 0 1 rfl rfl rfl hl.1 rfl (lv_room (Nat.le_of_ble_eq_true rfl)) dX1_make_2 ⟨Nat.le_of_ble_eq_true rfl, Nat.le_of_ble_eq_true rfl⟩ (fun H locs hP hD hS => ?_)
  refine lv_if_ne (tgt := 10) hx hb dX1_make_5 (by decide) (fun c_5 => ?_) (fun c_5 => ?_)
  · obtain ⟨k, hk, rfl⟩ := isH_in c_5
    have hkc : (nI k).toNatClampNeg = k := nI_clamp (by omega)
    refine lv_aload_n hx hb dX1_make_10 rfl (lv_at hl 0 rfl) ?_
    refine ca_i (D := (dC, dI)) (wf := wM h0 b cA) hx hb hml hown hts (metX1_used l dC dI h0 b cA _ σ ) (cwV 0 hts (lw_V q238 q240 qs16 q27 q241) rfl rfl rfl (by decide +kernel) ⟨Nat.le_of_ble_eq_true rfl, Nat.le_of_ble_eq_true rfl⟩) hK hP hD hS hA 0 1 rfl rfl rfl hl.1 rfl (lv_room (Nat.le_of_ble_eq_true rfl)) dX1_make_11 ⟨Nat.le_of_ble_eq_true rfl, Nat.le_of_ble_eq_true rfl⟩ (fun H locs hP hD hS => ?_)
    refine lv_istore_n (lv' := [(3, .int (m_used σ)), (0, .ref h0), (1, .int (nI k)), (2, .int p2)]) hx hb dX1_make_14 rfl hl (by decide) rfl (fun ls hl => ?_)
    refine lv_iconst (v := 0) hx hb dX1_make_15 (by decide) ?_
    refine lv_istore (lv' := [(4, .int 0), (3, .int (m_used σ)), (0, .ref h0), (1, .int (nI k)), (2, .int p2)]) hx hb dX1_make_16 hl (by decide) rfl (fun ls hl => ?_)
    refine lpX1_make_18 hx hb hml hown hts hA hK (nI k) p2 (m_used σ) σ 12 0 rfl _ _ hP hD hS ls (lv_sub hl [2, 3, 4, 1, 0] rfl) (fun c_f H locs hP hD hS ls hl => ?_) (fun c_f H locs hP hD hS ls hl => ?_)
    · refine lv_aload_n hx hb dX1_make_35 rfl (lv_at hl 0 rfl) ?_
      refine va_get (D := (dC, dI)) (ci := 1) (v := .ref (b 0)) (C := RX1) (T := TX1) (N := 7) hx hb hts in_X1 hown hK hP 0 rfl rfl 0 (by decide) (hts _ q208) (fun _ h9 => h9) rfl dX1_make_36 ?_
      refine lv_iload hx hb dX1_make_39 (lv_at hl 3 rfl) ?_
      refine lv_iload_n hx hb dX1_make_41 rfl (lv_at hl 2 rfl) ?_
      refine xa_iast (D := (dC, dI)) (f := σ.2 0) hx hb hK hP hD hS 1 0 rfl rfl (mfr (m_used σ) 12 0) rfl (by omega) (by decide) dX1_make_42 (fun H locs hP hD hS => ?_)
      have hP : va_P (dC, dI) vwCl (wM h0 b cA (setA σ 0 (mfr (m_used σ) 12 0) p2)) H := hP
      have hD : va_D A (wM h0 b cA (setA σ 0 (mfr (m_used σ) 12 0) p2)) := hD
      refine lv_aload_n hx hb dX1_make_43 rfl (lv_at hl 0 rfl) ?_
      refine va_get (D := (dC, dI)) (ci := 1) (v := .ref (b 1)) (C := RX1) (T := TX1) (N := 7) hx hb hts in_X1 hown hK hP 0 rfl rfl 1 (by decide) (hts _ q209) (fun _ h9 => h9) rfl dX1_make_44 ?_
      refine lv_iconst (v := 2) hx hb dX1_make_47 (by decide) ?_
      refine lv_iload hx hb dX1_make_48 (lv_at hl 3 rfl) ?_
      refine lv_imul hx hb dX1_make_50 ?_
      refine lv_tope (e2m _) ?_
      refine lv_iconst (v := (-1)) hx hb dX1_make_51 (by decide) ?_
      refine xa_iast (D := (dC, dI)) (f := σ.2 1) hx hb hK hP hD hS 2 1 rfl rfl (2 * (mfr (m_used σ) 12 0)) rfl (by omega) (by decide) dX1_make_52 (fun H locs hP hD hS => ?_)
      have hP : va_P (dC, dI) vwCl (wM h0 b cA (setA (setA σ 0 (mfr (m_used σ) 12 0) p2) 1 (2 * (mfr (m_used σ) 12 0)) (-1))) H := hP
      have hD : va_D A (wM h0 b cA (setA (setA σ 0 (mfr (m_used σ) 12 0) p2) 1 (2 * (mfr (m_used σ) 12 0)) (-1))) := hD
      refine lv_aload_n hx hb dX1_make_53 rfl (lv_at hl 0 rfl) ?_
      refine va_get (D := (dC, dI)) (ci := 1) (v := .ref (b 1)) (C := RX1) (T := TX1) (N := 7) hx hb hts in_X1 hown hK hP 0 rfl rfl 1 (by decide) (hts _ q209) (fun _ h9 => h9) rfl dX1_make_54 ?_
      refine lv_iconst (v := 2) hx hb dX1_make_57 (by decide) ?_
      refine lv_iload hx hb dX1_make_58 (lv_at hl 3 rfl) ?_
      refine lv_imul hx hb dX1_make_60 ?_
      refine lv_tope (e2m _) ?_
      refine lv_iconst (v := 1) hx hb dX1_make_61 (by decide) ?_
      refine lv_iadd hx hb dX1_make_62 ?_
      refine lv_tope (nI_1 _) ?_
      refine lv_iconst (v := (-1)) hx hb dX1_make_63 (by decide) ?_
      refine xa_iast (D := (dC, dI)) (f := (setA (setA σ 0 (mfr (m_used σ) 12 0) p2) 1 (2 * (mfr (m_used σ) 12 0)) (-1)).2 1) hx hb hK hP hD hS 2 1 rfl rfl (2 * (mfr (m_used σ) 12 0) + 1) rfl (by omega) (by decide) dX1_make_64 (fun H locs hP hD hS => ?_)
      have hP : va_P (dC, dI) vwCl (wM h0 b cA (setA (setA (setA σ 0 (mfr (m_used σ) 12 0) p2) 1 (2 * (mfr (m_used σ) 12 0)) (-1)) 1 (2 * (mfr (m_used σ) 12 0) + 1) (-1))) H := hP
      have hD : va_D A (wM h0 b cA (setA (setA (setA σ 0 (mfr (m_used σ) 12 0) p2) 1 (2 * (mfr (m_used σ) 12 0)) (-1)) 1 (2 * (mfr (m_used σ) 12 0) + 1) (-1))) := hD
      refine lv_aload_n hx hb dX1_make_65 rfl (lv_at hl 0 rfl) ?_
      refine va_get (D := (dC, dI)) (ci := 1) (v := .ref (b 3)) (C := RX1) (T := TX1) (N := 7) hx hb hts in_X1 hown hK hP 0 rfl rfl 3 (by decide) (hts _ q211) (fun _ h9 => h9) rfl dX1_make_66 ?_
      refine lv_iload_n hx hb dX1_make_69 rfl (lv_at hl 1 rfl) ?_
      refine lv_iload hx hb dX1_make_70 (lv_at hl 3 rfl) ?_
      refine xa_iast (D := (dC, dI)) (f := σ.2 3) hx hb hK hP hD hS 3 2 rfl rfl k rfl (by omega) (by decide) dX1_make_72 (fun H locs hP hD hS => ?_)
      have hP : va_P (dC, dI) vwCl (wM h0 b cA (setA (setA (setA (setA σ 0 (mfr (m_used σ) 12 0) p2) 1 (2 * (mfr (m_used σ) 12 0)) (-1)) 1 (2 * (mfr (m_used σ) 12 0) + 1) (-1)) 3 k (nI (mfr (m_used σ) 12 0)))) H := hP
      have hD : va_D A (wM h0 b cA (setA (setA (setA (setA σ 0 (mfr (m_used σ) 12 0) p2) 1 (2 * (mfr (m_used σ) 12 0)) (-1)) 1 (2 * (mfr (m_used σ) 12 0) + 1) (-1)) 3 k (nI (mfr (m_used σ) 12 0)))) := hD
      refine lv_iload_n hx hb dX1_make_73 rfl (lv_at hl 1 rfl) ?_
      have hqr : nI k = (m_make σ (nI k) p2).1 := by simp only [m_make, m_mk2, if_neg c_5, if_pos c_f, hkc]
      have hqs : setA (setA (setA (setA σ 0 (mfr (m_used σ) 12 0) p2) 1 (2 * (mfr (m_used σ) 12 0)) (-1)) 1 (2 * (mfr (m_used σ) 12 0) + 1) (-1)) 3 k (nI (mfr (m_used σ) 12 0)) = (m_make σ (nI k) p2).2 := by simp only [m_make, m_mk2, if_neg c_5, if_pos c_f, hkc]
      exact W.iret (v := nI k) hx hb hr (fun t ht hW => ⟨⟨nI k, (setA (setA (setA (setA σ 0 (mfr (m_used σ) 12 0) p2) 1 (2 * (mfr (m_used σ) 12 0)) (-1)) 1 (2 * (mfr (m_used σ) 12 0) + 1) (-1)) 3 k (nI (mfr (m_used σ) 12 0))), rfl, ⟨hqr, hqs⟩, by rw [ht]; exact hP, va_K.moved hW.alike hK, hD⟩, hS.F ht⟩) hS.2.2 dX1_make_74
    · refine lv_bipush (v := (-2)) hx hb dX1_make_81 (by decide) ?_
      have hqr : (-2) = (m_make σ (nI k) p2).1 := by simp only [m_make, m_mk2, if_neg c_5, if_neg c_f, hkc]
      have hqs : σ = (m_make σ (nI k) p2).2 := by simp only [m_make, m_mk2, if_neg c_5, if_neg c_f, hkc]
      exact W.iret (v := (-2)) hx hb hr (fun t ht hW => ⟨⟨(-2), σ, rfl, ⟨hqr, hqs⟩, by rw [ht]; exact hP, va_K.moved hW.alike hK, hD⟩, hS.F ht⟩) hS.2.2 dX1_make_83
  · refine lv_iconst (v := (-1)) hx hb dX1_make_8 (by decide) ?_
    have hqr : (-1) = (m_make σ p1 p2).1 := by simp only [m_make, m_mk2, if_pos c_5]
    have hqs : σ = (m_make σ p1 p2).2 := by simp only [m_make, m_mk2, if_pos c_5]
    exact W.iret (v := (-1)) hx hb hr (fun t ht hW => ⟨⟨(-1), σ, rfl, ⟨hqr, hqs⟩, by rw [ht]; exact hP, va_K.moved hW.alike hK, hD⟩, hS.F ht⟩) hS.2.2 dX1_make_9
end
section
set_option maxRecDepth 100000
set_option maxHeartbeats 4000000 in
theorem lpX1_changed_15 {p : Program} {l : Launch} {e : Env} {s : State} {m : MethodId} {below : List Frame} {meth : Method} {c : Code} {args : Array Value} {Q : State → Prop} {dC : Nat → ClassId} {dI : Nat → Nat → Nat} {A : Nat → Prop} {h0 : Nat} {b : Nat → Nat} {cA : Nat → ClassId} (hx : p.tables.exec = Jvm.exec) (hb : c.code = cX1_changed) (hml : c.maxLocals = 6) (hown : s.vm.findClass RX1 = some m.cls) (hts : ∀ w ∈ lw_all, w.before args s = true) (hA : ∀ q : Nat, s.heap.size ≤ q → A q) (hK : va_K (dC, dI) vwCl (tM cA) s) (z : Int32) (y : Int32) :
    ∀ (n i : Nat) (t : Int32) (σ : XS), i + n = 12 → ∀ (H : Heap) (locs : List Loc), va_P (dC, dI) vwCl (wM h0 b cA σ) H → va_D A (wM h0 b cA σ) → va_S A s.heap H locs → ∀ (ls : Array Slot), lv_has ls 6 [(0, .ref h0), (1, .int z), (2, .int y), (3, .int t), (4, .int (nI i))] →
    (∀ (H : Heap) (locs : List Loc), va_P (dC, dI) vwCl (wM h0 b cA σ) H → va_D A (wM h0 b cA σ) → va_S A s.heap H locs → ∀ (ls : Array Slot), lv_has ls 6 [(3, .int (mchL σ z y n i t))] → W p l e (headSpec (ws_ yX1_changed cX1_changed 6 (some .int)) ({ frames := 3, cells := 0, slots := 0, locals := 69 })).room s m args below meth c H locs 0 0 Q (F0 m 126 ls [])) → W p l e (headSpec (ws_ yX1_changed cX1_changed 6 (some .int)) ({ frames := 3, cells := 0, slots := 0, locals := 69 })).room s m args below meth c H locs 0 0 Q (F0 m 15 ls []) := by
  intro n
  induction n with
  | zero =>
    intro i t σ hin H locs hP hD hS ls hl hk
    obtain rfl : i = 12 := by omega
    refine lv_iload hx hb dX1_changed_15 (lv_at hl 4 rfl) ?_
    refine lv_bipush (v := 12) hx hb dX1_changed_17 (by decide) ?_
    refine lv_icmp_ge (tgt := 126) hx hb dX1_changed_19 (by decide) (fun c_19 => ?_) (fun c_19 => ?_)
    · exact hk _ _ hP hD hS ls (lv_sub hl [3] rfl)
    · exact absurd (by decide +kernel) c_19
  | succ n ih =>
    intro i t σ hin H locs hP hD hS ls hl hk
    have hi : i < 12 := by omega
    refine lv_iload hx hb dX1_changed_15 (lv_at hl 4 rfl) ?_
    refine lv_bipush (v := 12) hx hb dX1_changed_17 (by decide) ?_
    refine lv_icmp_ge (tgt := 126) hx hb dX1_changed_19 (by decide) (fun c_19 => ?_) (fun c_19 => ?_)
    · exact absurd c_19 (nI_ge (b := 12) (by omega) (by decide))
    · refine lv_aload_n hx hb dX1_changed_22 rfl (lv_at hl 0 rfl) ?_
      refine va_get (D := (dC, dI)) (ci := 1) (v := .ref (b 0)) (C := RX1) (T := TX1) (N := 7) hx hb hts in_X1 hown hK hP 0 rfl rfl 0 (by decide) (hts _ q208) (fun _ h9 => h9) rfl dX1_changed_23 ?_
      refine lv_iload hx hb dX1_changed_26 (lv_at hl 4 rfl) ?_
      refine xa_iald (D := (dC, dI)) (f := σ.2 0) hx hb hK hP 1 0 rfl rfl i rfl (by omega) (by decide) dX1_changed_28 ?_
      refine lv_aload_n hx hb dX1_changed_29 rfl (lv_at hl 0 rfl) ?_
      refine va_get (D := (dC, dI)) (ci := 1) (v := .ref (b 4)) (C := RX1) (T := TX1) (N := 7) hx hb hts in_X1 hown hK hP 0 rfl rfl 4 (by decide) (hts _ q212) (fun _ h9 => h9) rfl dX1_changed_30 ?_
      refine lv_iload hx hb dX1_changed_33 (lv_at hl 4 rfl) ?_
      refine xa_iald (D := (dC, dI)) (f := σ.2 4) hx hb hK hP 4 3 rfl rfl i rfl (by omega) (by decide) dX1_changed_35 ?_
      refine lv_icmp_ne (tgt := 89) hx hb dX1_changed_36 (by decide) (fun c_36 => ?_) (fun c_36 => ?_)
      · refine lv_iconst (v := 0) hx hb dX1_changed_89 (by decide) ?_
        refine lv_tope (y := m_eq σ i) (by simp only [m_eq, if_neg c_19, if_neg c_36]) ?_
        refine lv_istore (lv' := [(5, .int (m_eq σ i)), (0, .ref h0), (1, .int z), (2, .int y), (3, .int t), (4, .int (nI i))]) hx hb dX1_changed_90 hl (by decide) rfl (fun ls hl => ?_)
        refine lv_aload_n hx hb dX1_changed_92 rfl (lv_at hl 1 rfl) ?_
        refine lv_iload_n hx hb dX1_changed_93 rfl (lv_at hl 2 rfl) ?_
        refine lv_iload hx hb dX1_changed_94 (lv_at hl 5 rfl) ?_
        refine ca_i (D := (dC, dI)) (wf := wM h0 b cA) hx hb hml hown hts (metX1_in l dC dI h0 b cA _ σ z i) (cwV 2 hts (lw_V q250 q252 qs19 q27 q253) rfl rfl rfl (by decide +kernel) ⟨Nat.le_of_ble_eq_true rfl, Nat.le_of_ble_eq_true rfl⟩) hK hP hD hS hA 0 1 rfl rfl rfl hl.1 rfl (lv_room (Nat.le_of_ble_eq_true rfl)) dX1_changed_96 ⟨Nat.le_of_ble_eq_true rfl, Nat.le_of_ble_eq_true rfl⟩ (fun H locs hP hD hS => ?_)
        refine lv_if_eq (tgt := 120) hx hb dX1_changed_99 (by decide) (fun c_99 => ?_) (fun c_99 => ?_)
        · refine lv_iinc (v := nI (i + 1)) (lv' := [(4, .int (nI (i + 1))), (5, .int (m_eq σ i)), (0, .ref h0), (1, .int z), (2, .int y), (3, .int t)]) hx hb dX1_changed_120 hl (k := 5) rfl (nI_1 _) (by decide) rfl (fun ls hl => ?_)
          refine lv_goto (tgt := 15) hx hb dX1_changed_123 (by decide) ?_
          rw [show mchL σ z y (n + 1) i t = mchL σ z y n (i + 1) t from by simp only [mchL, if_neg c_19, if_neg c_36, if_pos c_99]] at hk
          exact ih (i + 1) t σ (by omega)  _ _ hP hD hS ls (lv_sub hl [2, 3, 4, 5, 0] rfl) hk
        · refine lv_aload_n hx hb dX1_changed_102 rfl (lv_at hl 1 rfl) ?_
          refine lv_iload_n hx hb dX1_changed_103 rfl (lv_at hl 3 rfl) ?_
          refine lv_iload hx hb dX1_changed_104 (lv_at hl 5 rfl) ?_
          refine ca_i (D := (dC, dI)) (wf := wM h0 b cA) hx hb hml hown hts (metX1_in l dC dI h0 b cA _ σ y i) (cwV 2 hts (lw_V q250 q252 qs19 q27 q253) rfl rfl rfl (by decide +kernel) ⟨Nat.le_of_ble_eq_true rfl, Nat.le_of_ble_eq_true rfl⟩) hK hP hD hS hA 0 1 rfl rfl rfl hl.1 rfl (lv_room (Nat.le_of_ble_eq_true rfl)) dX1_changed_106 ⟨Nat.le_of_ble_eq_true rfl, Nat.le_of_ble_eq_true rfl⟩ (fun H locs hP hD hS => ?_)
          refine lv_if_eq (tgt := 117) hx hb dX1_changed_109 (by decide) (fun c_109 => ?_) (fun c_109 => ?_)
          · refine lv_iinc (v := t + 1) (lv' := [(3, .int (t + 1)), (5, .int (m_eq σ i)), (0, .ref h0), (1, .int z), (2, .int y), (4, .int (nI i))]) hx hb dX1_changed_117 hl (k := 4) rfl rfl (by decide) rfl (fun ls hl => ?_)
            refine lv_iinc (v := nI (i + 1)) (lv' := [(4, .int (nI (i + 1))), (3, .int (t + 1)), (5, .int (m_eq σ i)), (0, .ref h0), (1, .int z), (2, .int y)]) hx hb dX1_changed_120 hl (k := 5) rfl (nI_1 _) (by decide) rfl (fun ls hl => ?_)
            refine lv_goto (tgt := 15) hx hb dX1_changed_123 (by decide) ?_
            rw [show mchL σ z y (n + 1) i t = mchL σ z y n (i + 1) (t + 1) from by simp only [mchL, if_neg c_19, if_neg c_36, if_neg c_99, if_pos c_109]] at hk
            exact ih (i + 1) (t + 1) σ (by omega)  _ _ hP hD hS ls (lv_sub hl [3, 4, 5, 1, 0] rfl) hk
          · refine lv_iload hx hb dX1_changed_112 (lv_at hl 0 rfl) ?_
            refine lv_if_ne (tgt := 120) hx hb dX1_changed_114 (by decide) (fun c_114 => ?_) (fun c_114 => ?_)
            · refine lv_iinc (v := nI (i + 1)) (lv' := [(4, .int (nI (i + 1))), (5, .int (m_eq σ i)), (0, .ref h0), (1, .int z), (2, .int y), (3, .int t)]) hx hb dX1_changed_120 hl (k := 5) rfl (nI_1 _) (by decide) rfl (fun ls hl => ?_)
              refine lv_goto (tgt := 15) hx hb dX1_changed_123 (by decide) ?_
              rw [show mchL σ z y (n + 1) i t = mchL σ z y n (i + 1) t from by simp only [mchL, if_neg c_19, if_neg c_36, if_neg c_99, if_neg c_109, if_neg c_114]] at hk
              exact ih (i + 1) t σ (by omega)  _ _ hP hD hS ls (lv_sub hl [2, 3, 4, 5, 0] rfl) hk
            · refine lv_iinc (v := t + 1) (lv' := [(3, .int (t + 1)), (5, .int (m_eq σ i)), (0, .ref h0), (1, .int z), (2, .int y), (4, .int (nI i))]) hx hb dX1_changed_117 hl (k := 4) rfl rfl (by decide) rfl (fun ls hl => ?_)
              refine lv_iinc (v := nI (i + 1)) (lv' := [(4, .int (nI (i + 1))), (3, .int (t + 1)), (5, .int (m_eq σ i)), (0, .ref h0), (1, .int z), (2, .int y)]) hx hb dX1_changed_120 hl (k := 5) rfl (nI_1 _) (by decide) rfl (fun ls hl => ?_)
              refine lv_goto (tgt := 15) hx hb dX1_changed_123 (by decide) ?_
              rw [show mchL σ z y (n + 1) i t = mchL σ z y n (i + 1) (t + 1) from by simp only [mchL, if_neg c_19, if_neg c_36, if_neg c_99, if_neg c_109, if_pos c_114]] at hk
              exact ih (i + 1) (t + 1) σ (by omega)  _ _ hP hD hS ls (lv_sub hl [3, 4, 5, 1, 0] rfl) hk
      · refine lv_aload_n hx hb dX1_changed_39 rfl (lv_at hl 0 rfl) ?_
        refine va_get (D := (dC, dI)) (ci := 1) (v := .ref (b 1)) (C := RX1) (T := TX1) (N := 7) hx hb hts in_X1 hown hK hP 0 rfl rfl 1 (by decide) (hts _ q209) (fun _ h9 => h9) rfl dX1_changed_40 ?_
        refine lv_iconst (v := 2) hx hb dX1_changed_43 (by decide) ?_
        refine lv_iload hx hb dX1_changed_44 (lv_at hl 4 rfl) ?_
        refine lv_imul hx hb dX1_changed_46 ?_
        refine lv_tope (e2m _) ?_
        refine xa_iald (D := (dC, dI)) (f := σ.2 1) hx hb hK hP 2 1 rfl rfl (2 * i) rfl (by omega) (by decide) dX1_changed_47 ?_
        refine lv_aload_n hx hb dX1_changed_48 rfl (lv_at hl 0 rfl) ?_
        refine va_get (D := (dC, dI)) (ci := 1) (v := .ref (b 5)) (C := RX1) (T := TX1) (N := 7) hx hb hts in_X1 hown hK hP 0 rfl rfl 5 (by decide) (hts _ q213) (fun _ h9 => h9) rfl dX1_changed_49 ?_
        refine lv_iconst (v := 2) hx hb dX1_changed_52 (by decide) ?_
        refine lv_iload hx hb dX1_changed_53 (lv_at hl 4 rfl) ?_
        refine lv_imul hx hb dX1_changed_55 ?_
        refine lv_tope (e2m _) ?_
        refine xa_iald (D := (dC, dI)) (f := σ.2 5) hx hb hK hP 5 4 rfl rfl (2 * i) rfl (by omega) (by decide) dX1_changed_56 ?_
        refine lv_icmp_ne (tgt := 89) hx hb dX1_changed_57 (by decide) (fun c_57 => ?_) (fun c_57 => ?_)
        · refine lv_iconst (v := 0) hx hb dX1_changed_89 (by decide) ?_
          refine lv_tope (y := m_eq σ i) (by simp only [m_eq, if_neg c_19, if_pos c_36, if_neg c_57]) ?_
          refine lv_istore (lv' := [(5, .int (m_eq σ i)), (0, .ref h0), (1, .int z), (2, .int y), (3, .int t), (4, .int (nI i))]) hx hb dX1_changed_90 hl (by decide) rfl (fun ls hl => ?_)
          refine lv_aload_n hx hb dX1_changed_92 rfl (lv_at hl 1 rfl) ?_
          refine lv_iload_n hx hb dX1_changed_93 rfl (lv_at hl 2 rfl) ?_
          refine lv_iload hx hb dX1_changed_94 (lv_at hl 5 rfl) ?_
          refine ca_i (D := (dC, dI)) (wf := wM h0 b cA) hx hb hml hown hts (metX1_in l dC dI h0 b cA _ σ z i) (cwV 2 hts (lw_V q250 q252 qs19 q27 q253) rfl rfl rfl (by decide +kernel) ⟨Nat.le_of_ble_eq_true rfl, Nat.le_of_ble_eq_true rfl⟩) hK hP hD hS hA 0 1 rfl rfl rfl hl.1 rfl (lv_room (Nat.le_of_ble_eq_true rfl)) dX1_changed_96 ⟨Nat.le_of_ble_eq_true rfl, Nat.le_of_ble_eq_true rfl⟩ (fun H locs hP hD hS => ?_)
          refine lv_if_eq (tgt := 120) hx hb dX1_changed_99 (by decide) (fun c_99 => ?_) (fun c_99 => ?_)
          · refine lv_iinc (v := nI (i + 1)) (lv' := [(4, .int (nI (i + 1))), (5, .int (m_eq σ i)), (0, .ref h0), (1, .int z), (2, .int y), (3, .int t)]) hx hb dX1_changed_120 hl (k := 5) rfl (nI_1 _) (by decide) rfl (fun ls hl => ?_)
            refine lv_goto (tgt := 15) hx hb dX1_changed_123 (by decide) ?_
            rw [show mchL σ z y (n + 1) i t = mchL σ z y n (i + 1) t from by simp only [mchL, if_neg c_19, if_pos c_36, if_neg c_57, if_pos c_99]] at hk
            exact ih (i + 1) t σ (by omega)  _ _ hP hD hS ls (lv_sub hl [2, 3, 4, 5, 0] rfl) hk
          · refine lv_aload_n hx hb dX1_changed_102 rfl (lv_at hl 1 rfl) ?_
            refine lv_iload_n hx hb dX1_changed_103 rfl (lv_at hl 3 rfl) ?_
            refine lv_iload hx hb dX1_changed_104 (lv_at hl 5 rfl) ?_
            refine ca_i (D := (dC, dI)) (wf := wM h0 b cA) hx hb hml hown hts (metX1_in l dC dI h0 b cA _ σ y i) (cwV 2 hts (lw_V q250 q252 qs19 q27 q253) rfl rfl rfl (by decide +kernel) ⟨Nat.le_of_ble_eq_true rfl, Nat.le_of_ble_eq_true rfl⟩) hK hP hD hS hA 0 1 rfl rfl rfl hl.1 rfl (lv_room (Nat.le_of_ble_eq_true rfl)) dX1_changed_106 ⟨Nat.le_of_ble_eq_true rfl, Nat.le_of_ble_eq_true rfl⟩ (fun H locs hP hD hS => ?_)
            refine lv_if_eq (tgt := 117) hx hb dX1_changed_109 (by decide) (fun c_109 => ?_) (fun c_109 => ?_)
            · refine lv_iinc (v := t + 1) (lv' := [(3, .int (t + 1)), (5, .int (m_eq σ i)), (0, .ref h0), (1, .int z), (2, .int y), (4, .int (nI i))]) hx hb dX1_changed_117 hl (k := 4) rfl rfl (by decide) rfl (fun ls hl => ?_)
              refine lv_iinc (v := nI (i + 1)) (lv' := [(4, .int (nI (i + 1))), (3, .int (t + 1)), (5, .int (m_eq σ i)), (0, .ref h0), (1, .int z), (2, .int y)]) hx hb dX1_changed_120 hl (k := 5) rfl (nI_1 _) (by decide) rfl (fun ls hl => ?_)
              refine lv_goto (tgt := 15) hx hb dX1_changed_123 (by decide) ?_
              rw [show mchL σ z y (n + 1) i t = mchL σ z y n (i + 1) (t + 1) from by simp only [mchL, if_neg c_19, if_pos c_36, if_neg c_57, if_neg c_99, if_pos c_109]] at hk
              exact ih (i + 1) (t + 1) σ (by omega)  _ _ hP hD hS ls (lv_sub hl [3, 4, 5, 1, 0] rfl) hk
            · refine lv_iload hx hb dX1_changed_112 (lv_at hl 0 rfl) ?_
              refine lv_if_ne (tgt := 120) hx hb dX1_changed_114 (by decide) (fun c_114 => ?_) (fun c_114 => ?_)
              · refine lv_iinc (v := nI (i + 1)) (lv' := [(4, .int (nI (i + 1))), (5, .int (m_eq σ i)), (0, .ref h0), (1, .int z), (2, .int y), (3, .int t)]) hx hb dX1_changed_120 hl (k := 5) rfl (nI_1 _) (by decide) rfl (fun ls hl => ?_)
                refine lv_goto (tgt := 15) hx hb dX1_changed_123 (by decide) ?_
                rw [show mchL σ z y (n + 1) i t = mchL σ z y n (i + 1) t from by simp only [mchL, if_neg c_19, if_pos c_36, if_neg c_57, if_neg c_99, if_neg c_109, if_neg c_114]] at hk
                exact ih (i + 1) t σ (by omega)  _ _ hP hD hS ls (lv_sub hl [2, 3, 4, 5, 0] rfl) hk
              · refine lv_iinc (v := t + 1) (lv' := [(3, .int (t + 1)), (5, .int (m_eq σ i)), (0, .ref h0), (1, .int z), (2, .int y), (4, .int (nI i))]) hx hb dX1_changed_117 hl (k := 4) rfl rfl (by decide) rfl (fun ls hl => ?_)
                refine lv_iinc (v := nI (i + 1)) (lv' := [(4, .int (nI (i + 1))), (3, .int (t + 1)), (5, .int (m_eq σ i)), (0, .ref h0), (1, .int z), (2, .int y)]) hx hb dX1_changed_120 hl (k := 5) rfl (nI_1 _) (by decide) rfl (fun ls hl => ?_)
                refine lv_goto (tgt := 15) hx hb dX1_changed_123 (by decide) ?_
                rw [show mchL σ z y (n + 1) i t = mchL σ z y n (i + 1) (t + 1) from by simp only [mchL, if_neg c_19, if_pos c_36, if_neg c_57, if_neg c_99, if_neg c_109, if_pos c_114]] at hk
                exact ih (i + 1) (t + 1) σ (by omega)  _ _ hP hD hS ls (lv_sub hl [3, 4, 5, 1, 0] rfl) hk
        · refine lv_aload_n hx hb dX1_changed_60 rfl (lv_at hl 0 rfl) ?_
          refine va_get (D := (dC, dI)) (ci := 1) (v := .ref (b 1)) (C := RX1) (T := TX1) (N := 7) hx hb hts in_X1 hown hK hP 0 rfl rfl 1 (by decide) (hts _ q209) (fun _ h9 => h9) rfl dX1_changed_61 ?_
          refine lv_iconst (v := 2) hx hb dX1_changed_64 (by decide) ?_
          refine lv_iload hx hb dX1_changed_65 (lv_at hl 4 rfl) ?_
          refine lv_imul hx hb dX1_changed_67 ?_
          refine lv_tope (e2m _) ?_
          refine lv_iconst (v := 1) hx hb dX1_changed_68 (by decide) ?_
          refine lv_iadd hx hb dX1_changed_69 ?_
          refine lv_tope (nI_1 _) ?_
          refine xa_iald (D := (dC, dI)) (f := σ.2 1) hx hb hK hP 2 1 rfl rfl (2 * i + 1) rfl (by omega) (by decide) dX1_changed_70 ?_
          refine lv_aload_n hx hb dX1_changed_71 rfl (lv_at hl 0 rfl) ?_
          refine va_get (D := (dC, dI)) (ci := 1) (v := .ref (b 5)) (C := RX1) (T := TX1) (N := 7) hx hb hts in_X1 hown hK hP 0 rfl rfl 5 (by decide) (hts _ q213) (fun _ h9 => h9) rfl dX1_changed_72 ?_
          refine lv_iconst (v := 2) hx hb dX1_changed_75 (by decide) ?_
          refine lv_iload hx hb dX1_changed_76 (lv_at hl 4 rfl) ?_
          refine lv_imul hx hb dX1_changed_78 ?_
          refine lv_tope (e2m _) ?_
          refine lv_iconst (v := 1) hx hb dX1_changed_79 (by decide) ?_
          refine lv_iadd hx hb dX1_changed_80 ?_
          refine lv_tope (nI_1 _) ?_
          refine xa_iald (D := (dC, dI)) (f := σ.2 5) hx hb hK hP 5 4 rfl rfl (2 * i + 1) rfl (by omega) (by decide) dX1_changed_81 ?_
          refine lv_icmp_ne (tgt := 89) hx hb dX1_changed_82 (by decide) (fun c_82 => ?_) (fun c_82 => ?_)
          · refine lv_iconst (v := 0) hx hb dX1_changed_89 (by decide) ?_
            refine lv_tope (y := m_eq σ i) (by simp only [m_eq, if_neg c_19, if_pos c_36, if_pos c_57, if_neg c_82]) ?_
            refine lv_istore (lv' := [(5, .int (m_eq σ i)), (0, .ref h0), (1, .int z), (2, .int y), (3, .int t), (4, .int (nI i))]) hx hb dX1_changed_90 hl (by decide) rfl (fun ls hl => ?_)
            refine lv_aload_n hx hb dX1_changed_92 rfl (lv_at hl 1 rfl) ?_
            refine lv_iload_n hx hb dX1_changed_93 rfl (lv_at hl 2 rfl) ?_
            refine lv_iload hx hb dX1_changed_94 (lv_at hl 5 rfl) ?_
            refine ca_i (D := (dC, dI)) (wf := wM h0 b cA) hx hb hml hown hts (metX1_in l dC dI h0 b cA _ σ z i) (cwV 2 hts (lw_V q250 q252 qs19 q27 q253) rfl rfl rfl (by decide +kernel) ⟨Nat.le_of_ble_eq_true rfl, Nat.le_of_ble_eq_true rfl⟩) hK hP hD hS hA 0 1 rfl rfl rfl hl.1 rfl (lv_room (Nat.le_of_ble_eq_true rfl)) dX1_changed_96 ⟨Nat.le_of_ble_eq_true rfl, Nat.le_of_ble_eq_true rfl⟩ (fun H locs hP hD hS => ?_)
            refine lv_if_eq (tgt := 120) hx hb dX1_changed_99 (by decide) (fun c_99 => ?_) (fun c_99 => ?_)
            · refine lv_iinc (v := nI (i + 1)) (lv' := [(4, .int (nI (i + 1))), (5, .int (m_eq σ i)), (0, .ref h0), (1, .int z), (2, .int y), (3, .int t)]) hx hb dX1_changed_120 hl (k := 5) rfl (nI_1 _) (by decide) rfl (fun ls hl => ?_)
              refine lv_goto (tgt := 15) hx hb dX1_changed_123 (by decide) ?_
              rw [show mchL σ z y (n + 1) i t = mchL σ z y n (i + 1) t from by simp only [mchL, if_neg c_19, if_pos c_36, if_pos c_57, if_neg c_82, if_pos c_99]] at hk
              exact ih (i + 1) t σ (by omega)  _ _ hP hD hS ls (lv_sub hl [2, 3, 4, 5, 0] rfl) hk
            · refine lv_aload_n hx hb dX1_changed_102 rfl (lv_at hl 1 rfl) ?_
              refine lv_iload_n hx hb dX1_changed_103 rfl (lv_at hl 3 rfl) ?_
              refine lv_iload hx hb dX1_changed_104 (lv_at hl 5 rfl) ?_
              refine ca_i (D := (dC, dI)) (wf := wM h0 b cA) hx hb hml hown hts (metX1_in l dC dI h0 b cA _ σ y i) (cwV 2 hts (lw_V q250 q252 qs19 q27 q253) rfl rfl rfl (by decide +kernel) ⟨Nat.le_of_ble_eq_true rfl, Nat.le_of_ble_eq_true rfl⟩) hK hP hD hS hA 0 1 rfl rfl rfl hl.1 rfl (lv_room (Nat.le_of_ble_eq_true rfl)) dX1_changed_106 ⟨Nat.le_of_ble_eq_true rfl, Nat.le_of_ble_eq_true rfl⟩ (fun H locs hP hD hS => ?_)
              refine lv_if_eq (tgt := 117) hx hb dX1_changed_109 (by decide) (fun c_109 => ?_) (fun c_109 => ?_)
              · refine lv_iinc (v := t + 1) (lv' := [(3, .int (t + 1)), (5, .int (m_eq σ i)), (0, .ref h0), (1, .int z), (2, .int y), (4, .int (nI i))]) hx hb dX1_changed_117 hl (k := 4) rfl rfl (by decide) rfl (fun ls hl => ?_)
                refine lv_iinc (v := nI (i + 1)) (lv' := [(4, .int (nI (i + 1))), (3, .int (t + 1)), (5, .int (m_eq σ i)), (0, .ref h0), (1, .int z), (2, .int y)]) hx hb dX1_changed_120 hl (k := 5) rfl (nI_1 _) (by decide) rfl (fun ls hl => ?_)
                refine lv_goto (tgt := 15) hx hb dX1_changed_123 (by decide) ?_
                rw [show mchL σ z y (n + 1) i t = mchL σ z y n (i + 1) (t + 1) from by simp only [mchL, if_neg c_19, if_pos c_36, if_pos c_57, if_neg c_82, if_neg c_99, if_pos c_109]] at hk
                exact ih (i + 1) (t + 1) σ (by omega)  _ _ hP hD hS ls (lv_sub hl [3, 4, 5, 1, 0] rfl) hk
              · refine lv_iload hx hb dX1_changed_112 (lv_at hl 0 rfl) ?_
                refine lv_if_ne (tgt := 120) hx hb dX1_changed_114 (by decide) (fun c_114 => ?_) (fun c_114 => ?_)
                · refine lv_iinc (v := nI (i + 1)) (lv' := [(4, .int (nI (i + 1))), (5, .int (m_eq σ i)), (0, .ref h0), (1, .int z), (2, .int y), (3, .int t)]) hx hb dX1_changed_120 hl (k := 5) rfl (nI_1 _) (by decide) rfl (fun ls hl => ?_)
                  refine lv_goto (tgt := 15) hx hb dX1_changed_123 (by decide) ?_
                  rw [show mchL σ z y (n + 1) i t = mchL σ z y n (i + 1) t from by simp only [mchL, if_neg c_19, if_pos c_36, if_pos c_57, if_neg c_82, if_neg c_99, if_neg c_109, if_neg c_114]] at hk
                  exact ih (i + 1) t σ (by omega)  _ _ hP hD hS ls (lv_sub hl [2, 3, 4, 5, 0] rfl) hk
                · refine lv_iinc (v := t + 1) (lv' := [(3, .int (t + 1)), (5, .int (m_eq σ i)), (0, .ref h0), (1, .int z), (2, .int y), (4, .int (nI i))]) hx hb dX1_changed_117 hl (k := 4) rfl rfl (by decide) rfl (fun ls hl => ?_)
                  refine lv_iinc (v := nI (i + 1)) (lv' := [(4, .int (nI (i + 1))), (3, .int (t + 1)), (5, .int (m_eq σ i)), (0, .ref h0), (1, .int z), (2, .int y)]) hx hb dX1_changed_120 hl (k := 5) rfl (nI_1 _) (by decide) rfl (fun ls hl => ?_)
                  refine lv_goto (tgt := 15) hx hb dX1_changed_123 (by decide) ?_
                  rw [show mchL σ z y (n + 1) i t = mchL σ z y n (i + 1) (t + 1) from by simp only [mchL, if_neg c_19, if_pos c_36, if_pos c_57, if_neg c_82, if_neg c_99, if_neg c_109, if_pos c_114]] at hk
                  exact ih (i + 1) (t + 1) σ (by omega)  _ _ hP hD hS ls (lv_sub hl [3, 4, 5, 1, 0] rfl) hk
          · refine lv_iconst (v := 1) hx hb dX1_changed_85 (by decide) ?_
            refine lv_goto (tgt := 90) hx hb dX1_changed_86 (by decide) ?_
            refine lv_tope (y := m_eq σ i) (by simp only [m_eq, if_neg c_19, if_pos c_36, if_pos c_57, if_pos c_82]) ?_
            refine lv_istore (lv' := [(5, .int (m_eq σ i)), (0, .ref h0), (1, .int z), (2, .int y), (3, .int t), (4, .int (nI i))]) hx hb dX1_changed_90 hl (by decide) rfl (fun ls hl => ?_)
            refine lv_aload_n hx hb dX1_changed_92 rfl (lv_at hl 1 rfl) ?_
            refine lv_iload_n hx hb dX1_changed_93 rfl (lv_at hl 2 rfl) ?_
            refine lv_iload hx hb dX1_changed_94 (lv_at hl 5 rfl) ?_
            refine ca_i (D := (dC, dI)) (wf := wM h0 b cA) hx hb hml hown hts (metX1_in l dC dI h0 b cA _ σ z i) (cwV 2 hts (lw_V q250 q252 qs19 q27 q253) rfl rfl rfl (by decide +kernel) ⟨Nat.le_of_ble_eq_true rfl, Nat.le_of_ble_eq_true rfl⟩) hK hP hD hS hA 0 1 rfl rfl rfl hl.1 rfl (lv_room (Nat.le_of_ble_eq_true rfl)) dX1_changed_96 ⟨Nat.le_of_ble_eq_true rfl, Nat.le_of_ble_eq_true rfl⟩ (fun H locs hP hD hS => ?_)
            refine lv_if_eq (tgt := 120) hx hb dX1_changed_99 (by decide) (fun c_99 => ?_) (fun c_99 => ?_)
            · refine lv_iinc (v := nI (i + 1)) (lv' := [(4, .int (nI (i + 1))), (5, .int (m_eq σ i)), (0, .ref h0), (1, .int z), (2, .int y), (3, .int t)]) hx hb dX1_changed_120 hl (k := 5) rfl (nI_1 _) (by decide) rfl (fun ls hl => ?_)
              refine lv_goto (tgt := 15) hx hb dX1_changed_123 (by decide) ?_
              rw [show mchL σ z y (n + 1) i t = mchL σ z y n (i + 1) t from by simp only [mchL, if_neg c_19, if_pos c_36, if_pos c_57, if_pos c_82, if_pos c_99]] at hk
              exact ih (i + 1) t σ (by omega)  _ _ hP hD hS ls (lv_sub hl [2, 3, 4, 5, 0] rfl) hk
            · refine lv_aload_n hx hb dX1_changed_102 rfl (lv_at hl 1 rfl) ?_
              refine lv_iload_n hx hb dX1_changed_103 rfl (lv_at hl 3 rfl) ?_
              refine lv_iload hx hb dX1_changed_104 (lv_at hl 5 rfl) ?_
              refine ca_i (D := (dC, dI)) (wf := wM h0 b cA) hx hb hml hown hts (metX1_in l dC dI h0 b cA _ σ y i) (cwV 2 hts (lw_V q250 q252 qs19 q27 q253) rfl rfl rfl (by decide +kernel) ⟨Nat.le_of_ble_eq_true rfl, Nat.le_of_ble_eq_true rfl⟩) hK hP hD hS hA 0 1 rfl rfl rfl hl.1 rfl (lv_room (Nat.le_of_ble_eq_true rfl)) dX1_changed_106 ⟨Nat.le_of_ble_eq_true rfl, Nat.le_of_ble_eq_true rfl⟩ (fun H locs hP hD hS => ?_)
              refine lv_if_eq (tgt := 117) hx hb dX1_changed_109 (by decide) (fun c_109 => ?_) (fun c_109 => ?_)
              · refine lv_iinc (v := t + 1) (lv' := [(3, .int (t + 1)), (5, .int (m_eq σ i)), (0, .ref h0), (1, .int z), (2, .int y), (4, .int (nI i))]) hx hb dX1_changed_117 hl (k := 4) rfl rfl (by decide) rfl (fun ls hl => ?_)
                refine lv_iinc (v := nI (i + 1)) (lv' := [(4, .int (nI (i + 1))), (3, .int (t + 1)), (5, .int (m_eq σ i)), (0, .ref h0), (1, .int z), (2, .int y)]) hx hb dX1_changed_120 hl (k := 5) rfl (nI_1 _) (by decide) rfl (fun ls hl => ?_)
                refine lv_goto (tgt := 15) hx hb dX1_changed_123 (by decide) ?_
                rw [show mchL σ z y (n + 1) i t = mchL σ z y n (i + 1) (t + 1) from by simp only [mchL, if_neg c_19, if_pos c_36, if_pos c_57, if_pos c_82, if_neg c_99, if_pos c_109]] at hk
                exact ih (i + 1) (t + 1) σ (by omega)  _ _ hP hD hS ls (lv_sub hl [3, 4, 5, 1, 0] rfl) hk
              · refine lv_iload hx hb dX1_changed_112 (lv_at hl 0 rfl) ?_
                refine lv_if_ne (tgt := 120) hx hb dX1_changed_114 (by decide) (fun c_114 => ?_) (fun c_114 => ?_)
                · refine lv_iinc (v := nI (i + 1)) (lv' := [(4, .int (nI (i + 1))), (5, .int (m_eq σ i)), (0, .ref h0), (1, .int z), (2, .int y), (3, .int t)]) hx hb dX1_changed_120 hl (k := 5) rfl (nI_1 _) (by decide) rfl (fun ls hl => ?_)
                  refine lv_goto (tgt := 15) hx hb dX1_changed_123 (by decide) ?_
                  rw [show mchL σ z y (n + 1) i t = mchL σ z y n (i + 1) t from by simp only [mchL, if_neg c_19, if_pos c_36, if_pos c_57, if_pos c_82, if_neg c_99, if_neg c_109, if_neg c_114]] at hk
                  exact ih (i + 1) t σ (by omega)  _ _ hP hD hS ls (lv_sub hl [2, 3, 4, 5, 0] rfl) hk
                · refine lv_iinc (v := t + 1) (lv' := [(3, .int (t + 1)), (5, .int (m_eq σ i)), (0, .ref h0), (1, .int z), (2, .int y), (4, .int (nI i))]) hx hb dX1_changed_117 hl (k := 4) rfl rfl (by decide) rfl (fun ls hl => ?_)
                  refine lv_iinc (v := nI (i + 1)) (lv' := [(4, .int (nI (i + 1))), (3, .int (t + 1)), (5, .int (m_eq σ i)), (0, .ref h0), (1, .int z), (2, .int y)]) hx hb dX1_changed_120 hl (k := 5) rfl (nI_1 _) (by decide) rfl (fun ls hl => ?_)
                  refine lv_goto (tgt := 15) hx hb dX1_changed_123 (by decide) ?_
                  rw [show mchL σ z y (n + 1) i t = mchL σ z y n (i + 1) (t + 1) from by simp only [mchL, if_neg c_19, if_pos c_36, if_pos c_57, if_pos c_82, if_neg c_99, if_neg c_109, if_pos c_114]] at hk
                  exact ih (i + 1) (t + 1) σ (by omega)  _ _ hP hD hS ls (lv_sub hl [3, 4, 5, 1, 0] rfl) hk

set_option maxHeartbeats 4000000 in
theorem metX1_changed (l : Launch) (dC : Nat → ClassId) (dI : Nat → Nat → Nat) (h0 : Nat) (b : Nat → Nat) (cA : Nat → ClassId) (sz : Nat) (σ : XS) : MetI l yX1_changed (ws_ yX1_changed cX1_changed 6 (some .int)) ({ frames := 3, cells := 0, slots := 0, locals := 69 }) (dC, dI) (tM cA) (wM h0 b cA) h0 [] sz σ (m_chg σ) σ := by
  refine Met.ofW (cc := cX1_changed) (maxL := 6) (ret := (some .int)) (by decide) rfl ?_
  intro p e s m args below meth c s₁ B hml hv
  obtain ⟨rfl, hsz, hP, hK, hD0⟩ := hv
  have hx := B.exec
  have hb := B.bytes
  have hr := B.returns
  have hts := atoms_spec (ws := (ws_ yX1_changed cX1_changed 6 (some .int))) B.pre
  have hts : ∀ w ∈ lw_all, w.before _ s = true := fun w h => hts w (List.mem_cons_of_mem _ h)
  have hown : s.vm.findClass RX1 = some m.cls := findClass_of_methodNamed B.named
  have hlocks := B.notSynchronized
  subst hsz
  have hD := hD0.self (sz := s.heap.size)
  generalize hAe : va_A (wM h0 b cA σ) s.heap.size = A at hD ⊢
  have hA : ∀ q : Nat, s.heap.size ≤ q → A q := fun q h => by rw [← hAe]; exact Or.inr h
  have hS : va_S A s.heap s.heap [] := va_S.rf
  have hl := lv_entry ([.ref h0]) (n := 6) (Nat.le_of_ble_eq_true rfl)
  rw [lg_entry_eq]
  generalize (lg_sl ([.ref h0]) ++ List.replicate (6 - (lg_sl ([.ref h0])).length) Slot.unset).toArray = ls at hl ⊢
  have hl : lv_has ls 6 [(0, .ref h0)] := hl
  refine lv_aload_n hx hb dX1_changed_0 rfl (lv_at hl 0 rfl) ?_
  refine ca_i (D := (dC, dI)) (wf := wM h0 b cA) hx hb hml hown hts (metX1_reached l dC dI h0 b cA _ σ ) (cwV 0 hts (lw_V q302 q304 qs23 q27 q305) rfl rfl rfl (by decide +kernel) ⟨Nat.le_of_ble_eq_true rfl, Nat.le_of_ble_eq_true rfl⟩) hK hP hD hS hA 0 1 rfl rfl rfl hl.1 rfl (lv_room (Nat.le_of_ble_eq_true rfl)) dX1_changed_1 ⟨Nat.le_of_ble_eq_true rfl, Nat.le_of_ble_eq_true rfl⟩ (fun H locs hP hD hS => ?_)
  refine lv_istore_n (lv' := [(1, .int (m_reach σ)), (0, .ref h0)]) hx hb dX1_changed_4 rfl hl (by decide) rfl (fun ls hl => ?_)
  refine lv_aload_n hx hb dX1_changed_5 rfl (lv_at hl 1 rfl) ?_
  refine ca_i (D := (dC, dI)) (wf := wM h0 b cA) hx hb hml hown hts (metX1_committed l dC dI h0 b cA _ σ ) (cwV 0 hts (lw_V q254 q256 qs20 q27 q257) rfl rfl rfl (by decide +kernel) ⟨Nat.le_of_ble_eq_true rfl, Nat.le_of_ble_eq_true rfl⟩) hK hP hD hS hA 0 1 rfl rfl rfl hl.1 rfl (lv_room (Nat.le_of_ble_eq_true rfl)) dX1_changed_6 ⟨Nat.le_of_ble_eq_true rfl, Nat.le_of_ble_eq_true rfl⟩ (fun H locs hP hD hS => ?_)
  refine lv_istore_n (lv' := [(2, .int (m_comm σ)), (1, .int (m_reach σ)), (0, .ref h0)]) hx hb dX1_changed_9 rfl hl (by decide) rfl (fun ls hl => ?_)
  refine lv_iconst (v := 0) hx hb dX1_changed_10 (by decide) ?_
  refine lv_istore_n (lv' := [(3, .int 0), (2, .int (m_comm σ)), (1, .int (m_reach σ)), (0, .ref h0)]) hx hb dX1_changed_11 rfl hl (by decide) rfl (fun ls hl => ?_)
  refine lv_iconst (v := 0) hx hb dX1_changed_12 (by decide) ?_
  refine lv_istore (lv' := [(4, .int 0), (3, .int 0), (2, .int (m_comm σ)), (1, .int (m_reach σ)), (0, .ref h0)]) hx hb dX1_changed_13 hl (by decide) rfl (fun ls hl => ?_)
  refine lpX1_changed_15 hx hb hml hown hts hA hK (m_reach σ) (m_comm σ) 12 0 0 σ rfl  _ _ hP hD hS ls (lv_sub hl [4, 3, 2, 1, 0] rfl) (fun H locs hP hD hS ls hl => ?_)
  refine lv_iload_n hx hb dX1_changed_126 rfl (lv_at hl 0 rfl) ?_
  have hqr : mchL σ (m_reach σ) (m_comm σ) 12 0 0 = m_chg σ := by simp only [m_chg]
  have hqs : σ = σ := rfl
  exact W.iret (v := mchL σ (m_reach σ) (m_comm σ) 12 0 0) hx hb hr (fun t ht hW => ⟨⟨mchL σ (m_reach σ) (m_comm σ) 12 0 0, σ, rfl, ⟨hqr, hqs⟩, by rw [ht]; exact hP, va_K.moved hW.alike hK, hD⟩, hS.F ht⟩) hS.2.2 dX1_changed_127

set_option maxHeartbeats 4000000 in
theorem lpX1_commit_20 {p : Program} {l : Launch} {e : Env} {s : State} {m : MethodId} {below : List Frame} {meth : Method} {c : Code} {args : Array Value} {Q : State → Prop} {dC : Nat → ClassId} {dI : Nat → Nat → Nat} {A : Nat → Prop} {h0 : Nat} {b : Nat → Nat} {cA : Nat → ClassId} (hx : p.tables.exec = Jvm.exec) (hb : c.code = cX1_commit) (hml : c.maxLocals = 4) (hown : s.vm.findClass RX1 = some m.cls) (hts : ∀ w ∈ lw_all, w.before args s = true) (hA : ∀ q : Nat, s.heap.size ≤ q → A q) (hK : va_K (dC, dI) vwCl (tM cA) s) (r : Int32) (z : Int32) :
    ∀ (n i : Nat) (σ : XS), i + n = 12 → ∀ (H : Heap) (locs : List Loc), va_P (dC, dI) vwCl (wM h0 b cA σ) H → va_D A (wM h0 b cA σ) → va_S A s.heap H locs → ∀ (ls : Array Slot), lv_has ls 4 [(0, .ref h0), (1, .int r), (2, .int z), (3, .int (nI i))] →
    (∀ (H : Heap) (locs : List Loc), va_P (dC, dI) vwCl (wM h0 b cA (cpyL z 0 1 4 5 n i σ)) H → va_D A (wM h0 b cA (cpyL z 0 1 4 5 n i σ)) → va_S A s.heap H locs → ∀ (ls : Array Slot), lv_has ls 4 [(1, .int r)] → W p l e (headSpec (ws_ yX1_commit cX1_commit 4 (some .int)) ({ frames := 4, cells := 0, slots := 0, locals := 94 })).room s m args below meth c H locs 0 0 Q (F0 m 89 ls [])) → W p l e (headSpec (ws_ yX1_commit cX1_commit 4 (some .int)) ({ frames := 4, cells := 0, slots := 0, locals := 94 })).room s m args below meth c H locs 0 0 Q (F0 m 20 ls []) := by
  intro n
  induction n with
  | zero =>
    intro i σ hin H locs hP hD hS ls hl hk
    obtain rfl : i = 12 := by omega
    refine lv_iload_n hx hb dX1_commit_20 rfl (lv_at hl 3 rfl) ?_
    refine lv_bipush (v := 12) hx hb dX1_commit_21 (by decide) ?_
    refine lv_icmp_ge (tgt := 89) hx hb dX1_commit_23 (by decide) (fun c_23 => ?_) (fun c_23 => ?_)
    · exact hk _ _ hP hD hS ls (lv_sub hl [1] rfl)
    · exact absurd (by decide +kernel) c_23
  | succ n ih =>
    intro i σ hin H locs hP hD hS ls hl hk
    have hi : i < 12 := by omega
    refine lv_iload_n hx hb dX1_commit_20 rfl (lv_at hl 3 rfl) ?_
    refine lv_bipush (v := 12) hx hb dX1_commit_21 (by decide) ?_
    refine lv_icmp_ge (tgt := 89) hx hb dX1_commit_23 (by decide) (fun c_23 => ?_) (fun c_23 => ?_)
    · exact absurd c_23 (nI_ge (b := 12) (by omega) (by decide))
    · refine lv_aload_n hx hb dX1_commit_26 rfl (lv_at hl 0 rfl) ?_
      refine lv_iload_n hx hb dX1_commit_27 rfl (lv_at hl 2 rfl) ?_
      refine lv_iload_n hx hb dX1_commit_28 rfl (lv_at hl 3 rfl) ?_
      refine ca_i (D := (dC, dI)) (wf := wM h0 b cA) hx hb hml hown hts (metX1_in l dC dI h0 b cA _ σ z i) (cwV 2 hts (lw_V q250 q252 qs19 q27 q253) rfl rfl rfl (by decide +kernel) ⟨Nat.le_of_ble_eq_true rfl, Nat.le_of_ble_eq_true rfl⟩) hK hP hD hS hA 0 1 rfl rfl rfl hl.1 rfl (lv_room (Nat.le_of_ble_eq_true rfl)) dX1_commit_29 ⟨Nat.le_of_ble_eq_true rfl, Nat.le_of_ble_eq_true rfl⟩ (fun H locs hP hD hS => ?_)
      refine lv_if_eq (tgt := 83) hx hb dX1_commit_32 (by decide) (fun c_32 => ?_) (fun c_32 => ?_)
      · refine lv_iinc (v := nI (i + 1)) (lv' := [(3, .int (nI (i + 1))), (0, .ref h0), (1, .int r), (2, .int z)]) hx hb dX1_commit_83 hl (k := 3) rfl (nI_1 _) (by decide) rfl (fun ls hl => ?_)
        refine lv_goto (tgt := 20) hx hb dX1_commit_86 (by decide) ?_
        rw [show cpyL z 0 1 4 5 (n + 1) i σ = cpyL z 0 1 4 5 n (i + 1) σ from by simp only [cpyL, cpyA, if_neg c_23, if_pos c_32]] at hk
        exact ih (i + 1)  σ (by omega)  _ _ hP hD hS ls (lv_sub hl [1, 2, 3, 0] rfl) hk
      · refine lv_aload_n hx hb dX1_commit_35 rfl (lv_at hl 0 rfl) ?_
        refine va_get (D := (dC, dI)) (ci := 1) (v := .ref (b 4)) (C := RX1) (T := TX1) (N := 7) hx hb hts in_X1 hown hK hP 0 rfl rfl 4 (by decide) (hts _ q212) (fun _ h9 => h9) rfl dX1_commit_36 ?_
        refine lv_iload_n hx hb dX1_commit_39 rfl (lv_at hl 3 rfl) ?_
        refine lv_aload_n hx hb dX1_commit_40 rfl (lv_at hl 0 rfl) ?_
        refine va_get (D := (dC, dI)) (ci := 1) (v := .ref (b 0)) (C := RX1) (T := TX1) (N := 7) hx hb hts in_X1 hown hK hP 0 rfl rfl 0 (by decide) (hts _ q208) (fun _ h9 => h9) rfl dX1_commit_41 ?_
        refine lv_iload_n hx hb dX1_commit_44 rfl (lv_at hl 3 rfl) ?_
        refine xa_iald (D := (dC, dI)) (f := σ.2 0) hx hb hK hP 1 0 rfl rfl i rfl (by omega) (by decide) dX1_commit_45 ?_
        refine xa_iast (D := (dC, dI)) (f := σ.2 4) hx hb hK hP hD hS 4 3 rfl rfl i rfl (by omega) (by decide) dX1_commit_46 (fun H locs hP hD hS => ?_)
        have hP : va_P (dC, dI) vwCl (wM h0 b cA (setA σ 4 i (σ.2 0 i))) H := hP
        have hD : va_D A (wM h0 b cA (setA σ 4 i (σ.2 0 i))) := hD
        refine lv_aload_n hx hb dX1_commit_47 rfl (lv_at hl 0 rfl) ?_
        refine va_get (D := (dC, dI)) (ci := 1) (v := .ref (b 5)) (C := RX1) (T := TX1) (N := 7) hx hb hts in_X1 hown hK hP 0 rfl rfl 5 (by decide) (hts _ q213) (fun _ h9 => h9) rfl dX1_commit_48 ?_
        refine lv_iconst (v := 2) hx hb dX1_commit_51 (by decide) ?_
        refine lv_iload_n hx hb dX1_commit_52 rfl (lv_at hl 3 rfl) ?_
        refine lv_imul hx hb dX1_commit_53 ?_
        refine lv_tope (e2m _) ?_
        refine lv_aload_n hx hb dX1_commit_54 rfl (lv_at hl 0 rfl) ?_
        refine va_get (D := (dC, dI)) (ci := 1) (v := .ref (b 1)) (C := RX1) (T := TX1) (N := 7) hx hb hts in_X1 hown hK hP 0 rfl rfl 1 (by decide) (hts _ q209) (fun _ h9 => h9) rfl dX1_commit_55 ?_
        refine lv_iconst (v := 2) hx hb dX1_commit_58 (by decide) ?_
        refine lv_iload_n hx hb dX1_commit_59 rfl (lv_at hl 3 rfl) ?_
        refine lv_imul hx hb dX1_commit_60 ?_
        refine lv_tope (e2m _) ?_
        refine xa_iald (D := (dC, dI)) (f := σ.2 1) hx hb hK hP 2 1 rfl rfl (2 * i) rfl (by omega) (by decide) dX1_commit_61 ?_
        refine xa_iast (D := (dC, dI)) (f := σ.2 5) hx hb hK hP hD hS 5 4 rfl rfl (2 * i) rfl (by omega) (by decide) dX1_commit_62 (fun H locs hP hD hS => ?_)
        have hP : va_P (dC, dI) vwCl (wM h0 b cA (setA (setA σ 4 i (σ.2 0 i)) 5 (2 * i) (σ.2 1 (2 * i)))) H := hP
        have hD : va_D A (wM h0 b cA (setA (setA σ 4 i (σ.2 0 i)) 5 (2 * i) (σ.2 1 (2 * i)))) := hD
        refine lv_aload_n hx hb dX1_commit_63 rfl (lv_at hl 0 rfl) ?_
        refine va_get (D := (dC, dI)) (ci := 1) (v := .ref (b 5)) (C := RX1) (T := TX1) (N := 7) hx hb hts in_X1 hown hK hP 0 rfl rfl 5 (by decide) (hts _ q213) (fun _ h9 => h9) rfl dX1_commit_64 ?_
        refine lv_iconst (v := 2) hx hb dX1_commit_67 (by decide) ?_
        refine lv_iload_n hx hb dX1_commit_68 rfl (lv_at hl 3 rfl) ?_
        refine lv_imul hx hb dX1_commit_69 ?_
        refine lv_tope (e2m _) ?_
        refine lv_iconst (v := 1) hx hb dX1_commit_70 (by decide) ?_
        refine lv_iadd hx hb dX1_commit_71 ?_
        refine lv_tope (nI_1 _) ?_
        refine lv_aload_n hx hb dX1_commit_72 rfl (lv_at hl 0 rfl) ?_
        refine va_get (D := (dC, dI)) (ci := 1) (v := .ref (b 1)) (C := RX1) (T := TX1) (N := 7) hx hb hts in_X1 hown hK hP 0 rfl rfl 1 (by decide) (hts _ q209) (fun _ h9 => h9) rfl dX1_commit_73 ?_
        refine lv_iconst (v := 2) hx hb dX1_commit_76 (by decide) ?_
        refine lv_iload_n hx hb dX1_commit_77 rfl (lv_at hl 3 rfl) ?_
        refine lv_imul hx hb dX1_commit_78 ?_
        refine lv_tope (e2m _) ?_
        refine lv_iconst (v := 1) hx hb dX1_commit_79 (by decide) ?_
        refine lv_iadd hx hb dX1_commit_80 ?_
        refine lv_tope (nI_1 _) ?_
        refine xa_iald (D := (dC, dI)) (f := σ.2 1) hx hb hK hP 2 1 rfl rfl (2 * i + 1) rfl (by omega) (by decide) dX1_commit_81 ?_
        refine xa_iast (D := (dC, dI)) (f := (setA (setA σ 4 i (σ.2 0 i)) 5 (2 * i) (σ.2 1 (2 * i))).2 5) hx hb hK hP hD hS 5 4 rfl rfl (2 * i + 1) rfl (by omega) (by decide) dX1_commit_82 (fun H locs hP hD hS => ?_)
        have hP : va_P (dC, dI) vwCl (wM h0 b cA (setA (setA (setA σ 4 i (σ.2 0 i)) 5 (2 * i) (σ.2 1 (2 * i))) 5 (2 * i + 1) (σ.2 1 (2 * i + 1)))) H := hP
        have hD : va_D A (wM h0 b cA (setA (setA (setA σ 4 i (σ.2 0 i)) 5 (2 * i) (σ.2 1 (2 * i))) 5 (2 * i + 1) (σ.2 1 (2 * i + 1)))) := hD
        refine lv_iinc (v := nI (i + 1)) (lv' := [(3, .int (nI (i + 1))), (0, .ref h0), (1, .int r), (2, .int z)]) hx hb dX1_commit_83 hl (k := 3) rfl (nI_1 _) (by decide) rfl (fun ls hl => ?_)
        refine lv_goto (tgt := 20) hx hb dX1_commit_86 (by decide) ?_
        rw [show cpyL z 0 1 4 5 (n + 1) i σ = cpyL z 0 1 4 5 n (i + 1) (setA (setA (setA σ 4 i (σ.2 0 i)) 5 (2 * i) (σ.2 1 (2 * i))) 5 (2 * i + 1) (σ.2 1 (2 * i + 1))) from by simp only [cpyL, cpyA, if_neg c_23, if_neg c_32]] at hk
        exact ih (i + 1)  (setA (setA (setA σ 4 i (σ.2 0 i)) 5 (2 * i) (σ.2 1 (2 * i))) 5 (2 * i + 1) (σ.2 1 (2 * i + 1))) (by omega)  _ _ hP hD hS ls (lv_sub hl [1, 2, 3, 0] rfl) hk

set_option maxHeartbeats 4000000 in
theorem metX1_commit (l : Launch) (dC : Nat → ClassId) (dI : Nat → Nat → Nat) (h0 : Nat) (b : Nat → Nat) (cA : Nat → ClassId) (sz : Nat) (σ : XS) : MetI l yX1_commit (ws_ yX1_commit cX1_commit 4 (some .int)) ({ frames := 4, cells := 0, slots := 0, locals := 94 }) (dC, dI) (tM cA) (wM h0 b cA) h0 [] sz σ ((m_commit σ).1) ((m_commit σ).2) := by
  refine Met.ofW (cc := cX1_commit) (maxL := 4) (ret := (some .int)) (by decide) rfl ?_
  intro p e s m args below meth c s₁ B hml hv
  obtain ⟨rfl, hsz, hP, hK, hD0⟩ := hv
  have hx := B.exec
  have hb := B.bytes
  have hr := B.returns
  have hts := atoms_spec (ws := (ws_ yX1_commit cX1_commit 4 (some .int))) B.pre
  have hts : ∀ w ∈ lw_all, w.before _ s = true := fun w h => hts w (List.mem_cons_of_mem _ h)
  have hown : s.vm.findClass RX1 = some m.cls := findClass_of_methodNamed B.named
  have hlocks := B.notSynchronized
  subst hsz
  have hD := hD0.self (sz := s.heap.size)
  generalize hAe : va_A (wM h0 b cA σ) s.heap.size = A at hD ⊢
  have hA : ∀ q : Nat, s.heap.size ≤ q → A q := fun q h => by rw [← hAe]; exact Or.inr h
  have hS : va_S A s.heap s.heap [] := va_S.rf
  have hl := lv_entry ([.ref h0]) (n := 4) (Nat.le_of_ble_eq_true rfl)
  rw [lg_entry_eq]
  generalize (lg_sl ([.ref h0]) ++ List.replicate (4 - (lg_sl ([.ref h0])).length) Slot.unset).toArray = ls at hl ⊢
  have hl : lv_has ls 4 [(0, .ref h0)] := hl
  refine lv_aload_n hx hb dX1_commit_0 rfl (lv_at hl 0 rfl) ?_
  refine ca_i (D := (dC, dI)) (wf := wM h0 b cA) hx hb hml hown hts (metX1_changed l dC dI h0 b cA _ σ ) (cwV 0 hts (lw_V q298 q300 qs22 q27 q301) rfl rfl rfl (by decide +kernel) ⟨Nat.le_of_ble_eq_true rfl, Nat.le_of_ble_eq_true rfl⟩) hK hP hD hS hA 0 1 rfl rfl rfl hl.1 rfl (lv_room (Nat.le_of_ble_eq_true rfl)) dX1_commit_1 ⟨Nat.le_of_ble_eq_true rfl, Nat.le_of_ble_eq_true rfl⟩ (fun H locs hP hD hS => ?_)
  refine lv_istore_n (lv' := [(1, .int (m_chg σ)), (0, .ref h0)]) hx hb dX1_commit_4 rfl hl (by decide) rfl (fun ls hl => ?_)
  refine lv_aload_n hx hb dX1_commit_5 rfl (lv_at hl 1 rfl) ?_
  refine ca_i (D := (dC, dI)) (wf := wM h0 b cA) hx hb hml hown hts (metX1_reached l dC dI h0 b cA _ σ ) (cwV 0 hts (lw_V q302 q304 qs23 q27 q305) rfl rfl rfl (by decide +kernel) ⟨Nat.le_of_ble_eq_true rfl, Nat.le_of_ble_eq_true rfl⟩) hK hP hD hS hA 0 1 rfl rfl rfl hl.1 rfl (lv_room (Nat.le_of_ble_eq_true rfl)) dX1_commit_6 ⟨Nat.le_of_ble_eq_true rfl, Nat.le_of_ble_eq_true rfl⟩ (fun H locs hP hD hS => ?_)
  refine lv_istore_n (lv' := [(2, .int (m_reach σ)), (1, .int (m_chg σ)), (0, .ref h0)]) hx hb dX1_commit_9 rfl hl (by decide) rfl (fun ls hl => ?_)
  refine lv_aload_n hx hb dX1_commit_10 rfl (lv_at hl 2 rfl) ?_
  refine lv_aload_n hx hb dX1_commit_11 rfl (lv_at hl 2 rfl) ?_
  refine va_get (D := (dC, dI)) (ci := 1) (v := .int (σ.1 2)) (C := RX1) (T := TX1) (N := 7) hx hb hts in_X1 hown hK hP 0 rfl rfl 2 (by decide) (hts _ q210) (fun _ h9 => h9) rfl dX1_commit_12 ?_
  refine va_put (D := (dC, dI)) (ci := 1) (v := .int (σ.1 2)) (ty := .int) (C := RX1) (T := TX1) (N := 7) hx hb hts in_X1 tyX1 tyX1_ok nmX1 hown hK hP hD hS 0 rfl rfl 6 (by decide) (hts _ q214) (fun _ h9 => h9) rfl (by decide +kernel) rfl rfl (Nat.le_of_ble_eq_true rfl) dX1_commit_15 (fun H locs hP hD hS => ?_)
  have hP : va_P (dC, dI) vwCl (wM h0 b cA (setF σ 6 (σ.1 2))) H := hP
  have hD : va_D A (wM h0 b cA (setF σ 6 (σ.1 2))) := hD
  refine lv_iconst (v := 0) hx hb dX1_commit_18 (by decide) ?_
  refine lv_istore_n (lv' := [(3, .int 0), (2, .int (m_reach σ)), (1, .int (m_chg σ)), (0, .ref h0)]) hx hb dX1_commit_19 rfl hl (by decide) rfl (fun ls hl => ?_)
  refine lpX1_commit_20 hx hb hml hown hts hA hK (m_chg σ) (m_reach σ) 12 0  (setF σ 6 (σ.1 2)) rfl  _ _ hP hD hS ls (lv_sub hl [3, 2, 1, 0] rfl) (fun H locs hP hD hS ls hl => ?_)
  refine lv_iload_n hx hb dX1_commit_89 rfl (lv_at hl 0 rfl) ?_
  have hqr : (m_chg σ) = (m_commit σ).1 := by simp only [m_commit]
  have hqs : (cpyL (m_reach σ) 0 1 4 5 12 0 (setF σ 6 (σ.1 2))) = (m_commit σ).2 := by simp only [m_commit]
  exact W.iret (v := (m_chg σ)) hx hb hr (fun t ht hW => ⟨⟨(m_chg σ), (cpyL (m_reach σ) 0 1 4 5 12 0 (setF σ 6 (σ.1 2))), rfl, ⟨hqr, hqs⟩, by rw [ht]; exact hP, va_K.moved hW.alike hK, hD⟩, hS.F ht⟩) hS.2.2 dX1_commit_90

set_option maxHeartbeats 4000000 in
theorem lpX1_abort_19 {p : Program} {l : Launch} {e : Env} {s : State} {m : MethodId} {below : List Frame} {meth : Method} {c : Code} {args : Array Value} {Q : State → Prop} {dC : Nat → ClassId} {dI : Nat → Nat → Nat} {A : Nat → Prop} {h0 : Nat} {b : Nat → Nat} {cA : Nat → ClassId} (hx : p.tables.exec = Jvm.exec) (hb : c.code = cX1_abort) (hml : c.maxLocals = 3) (hown : s.vm.findClass RX1 = some m.cls) (hts : ∀ w ∈ lw_all, w.before args s = true) (hA : ∀ q : Nat, s.heap.size ≤ q → A q) (hK : va_K (dC, dI) vwCl (tM cA) s) (z : Int32) :
    ∀ (n i : Nat) (σ : XS), i + n = 12 → ∀ (H : Heap) (locs : List Loc), va_P (dC, dI) vwCl (wM h0 b cA σ) H → va_D A (wM h0 b cA σ) → va_S A s.heap H locs → ∀ (ls : Array Slot), lv_has ls 3 [(0, .ref h0), (1, .int z), (2, .int (nI i))] →
    (∀ (H : Heap) (locs : List Loc), va_P (dC, dI) vwCl (wM h0 b cA (cpyL z 4 5 0 1 n i σ)) H → va_D A (wM h0 b cA (cpyL z 4 5 0 1 n i σ)) → va_S A s.heap H locs → ∀ (ls : Array Slot), lv_has ls 3 [(0, .ref h0), (1, .int z)] → W p l e (headSpec (ws_ yX1_abort cX1_abort 3 (some .int)) ({ frames := 3, cells := 0, slots := 0, locals := 69 })).room s m args below meth c H locs 0 0 Q (F0 m 88 ls [])) → W p l e (headSpec (ws_ yX1_abort cX1_abort 3 (some .int)) ({ frames := 3, cells := 0, slots := 0, locals := 69 })).room s m args below meth c H locs 0 0 Q (F0 m 19 ls []) := by
  intro n
  induction n with
  | zero =>
    intro i σ hin H locs hP hD hS ls hl hk
    obtain rfl : i = 12 := by omega
    refine lv_iload_n hx hb dX1_abort_19 rfl (lv_at hl 2 rfl) ?_
    refine lv_bipush (v := 12) hx hb dX1_abort_20 (by decide) ?_
    refine lv_icmp_ge (tgt := 88) hx hb dX1_abort_22 (by decide) (fun c_22 => ?_) (fun c_22 => ?_)
    · exact hk _ _ hP hD hS ls (lv_sub hl [0, 1] rfl)
    · exact absurd (by decide +kernel) c_22
  | succ n ih =>
    intro i σ hin H locs hP hD hS ls hl hk
    have hi : i < 12 := by omega
    refine lv_iload_n hx hb dX1_abort_19 rfl (lv_at hl 2 rfl) ?_
    refine lv_bipush (v := 12) hx hb dX1_abort_20 (by decide) ?_
    refine lv_icmp_ge (tgt := 88) hx hb dX1_abort_22 (by decide) (fun c_22 => ?_) (fun c_22 => ?_)
    · exact absurd c_22 (nI_ge (b := 12) (by omega) (by decide))
    · refine lv_aload_n hx hb dX1_abort_25 rfl (lv_at hl 0 rfl) ?_
      refine lv_iload_n hx hb dX1_abort_26 rfl (lv_at hl 1 rfl) ?_
      refine lv_iload_n hx hb dX1_abort_27 rfl (lv_at hl 2 rfl) ?_
      refine ca_i (D := (dC, dI)) (wf := wM h0 b cA) hx hb hml hown hts (metX1_in l dC dI h0 b cA _ σ z i) (cwV 2 hts (lw_V q250 q252 qs19 q27 q253) rfl rfl rfl (by decide +kernel) ⟨Nat.le_of_ble_eq_true rfl, Nat.le_of_ble_eq_true rfl⟩) hK hP hD hS hA 0 1 rfl rfl rfl hl.1 rfl (lv_room (Nat.le_of_ble_eq_true rfl)) dX1_abort_28 ⟨Nat.le_of_ble_eq_true rfl, Nat.le_of_ble_eq_true rfl⟩ (fun H locs hP hD hS => ?_)
      refine lv_if_eq (tgt := 82) hx hb dX1_abort_31 (by decide) (fun c_31 => ?_) (fun c_31 => ?_)
      · refine lv_iinc (v := nI (i + 1)) (lv' := [(2, .int (nI (i + 1))), (0, .ref h0), (1, .int z)]) hx hb dX1_abort_82 hl (k := 2) rfl (nI_1 _) (by decide) rfl (fun ls hl => ?_)
        refine lv_goto (tgt := 19) hx hb dX1_abort_85 (by decide) ?_
        rw [show cpyL z 4 5 0 1 (n + 1) i σ = cpyL z 4 5 0 1 n (i + 1) σ from by simp only [cpyL, cpyA, if_neg c_22, if_pos c_31]] at hk
        exact ih (i + 1)  σ (by omega)  _ _ hP hD hS ls (lv_sub hl [1, 2, 0] rfl) hk
      · refine lv_aload_n hx hb dX1_abort_34 rfl (lv_at hl 0 rfl) ?_
        refine va_get (D := (dC, dI)) (ci := 1) (v := .ref (b 0)) (C := RX1) (T := TX1) (N := 7) hx hb hts in_X1 hown hK hP 0 rfl rfl 0 (by decide) (hts _ q208) (fun _ h9 => h9) rfl dX1_abort_35 ?_
        refine lv_iload_n hx hb dX1_abort_38 rfl (lv_at hl 2 rfl) ?_
        refine lv_aload_n hx hb dX1_abort_39 rfl (lv_at hl 0 rfl) ?_
        refine va_get (D := (dC, dI)) (ci := 1) (v := .ref (b 4)) (C := RX1) (T := TX1) (N := 7) hx hb hts in_X1 hown hK hP 0 rfl rfl 4 (by decide) (hts _ q212) (fun _ h9 => h9) rfl dX1_abort_40 ?_
        refine lv_iload_n hx hb dX1_abort_43 rfl (lv_at hl 2 rfl) ?_
        refine xa_iald (D := (dC, dI)) (f := σ.2 4) hx hb hK hP 4 3 rfl rfl i rfl (by omega) (by decide) dX1_abort_44 ?_
        refine xa_iast (D := (dC, dI)) (f := σ.2 0) hx hb hK hP hD hS 1 0 rfl rfl i rfl (by omega) (by decide) dX1_abort_45 (fun H locs hP hD hS => ?_)
        have hP : va_P (dC, dI) vwCl (wM h0 b cA (setA σ 0 i (σ.2 4 i))) H := hP
        have hD : va_D A (wM h0 b cA (setA σ 0 i (σ.2 4 i))) := hD
        refine lv_aload_n hx hb dX1_abort_46 rfl (lv_at hl 0 rfl) ?_
        refine va_get (D := (dC, dI)) (ci := 1) (v := .ref (b 1)) (C := RX1) (T := TX1) (N := 7) hx hb hts in_X1 hown hK hP 0 rfl rfl 1 (by decide) (hts _ q209) (fun _ h9 => h9) rfl dX1_abort_47 ?_
        refine lv_iconst (v := 2) hx hb dX1_abort_50 (by decide) ?_
        refine lv_iload_n hx hb dX1_abort_51 rfl (lv_at hl 2 rfl) ?_
        refine lv_imul hx hb dX1_abort_52 ?_
        refine lv_tope (e2m _) ?_
        refine lv_aload_n hx hb dX1_abort_53 rfl (lv_at hl 0 rfl) ?_
        refine va_get (D := (dC, dI)) (ci := 1) (v := .ref (b 5)) (C := RX1) (T := TX1) (N := 7) hx hb hts in_X1 hown hK hP 0 rfl rfl 5 (by decide) (hts _ q213) (fun _ h9 => h9) rfl dX1_abort_54 ?_
        refine lv_iconst (v := 2) hx hb dX1_abort_57 (by decide) ?_
        refine lv_iload_n hx hb dX1_abort_58 rfl (lv_at hl 2 rfl) ?_
        refine lv_imul hx hb dX1_abort_59 ?_
        refine lv_tope (e2m _) ?_
        refine xa_iald (D := (dC, dI)) (f := σ.2 5) hx hb hK hP 5 4 rfl rfl (2 * i) rfl (by omega) (by decide) dX1_abort_60 ?_
        refine xa_iast (D := (dC, dI)) (f := σ.2 1) hx hb hK hP hD hS 2 1 rfl rfl (2 * i) rfl (by omega) (by decide) dX1_abort_61 (fun H locs hP hD hS => ?_)
        have hP : va_P (dC, dI) vwCl (wM h0 b cA (setA (setA σ 0 i (σ.2 4 i)) 1 (2 * i) (σ.2 5 (2 * i)))) H := hP
        have hD : va_D A (wM h0 b cA (setA (setA σ 0 i (σ.2 4 i)) 1 (2 * i) (σ.2 5 (2 * i)))) := hD
        refine lv_aload_n hx hb dX1_abort_62 rfl (lv_at hl 0 rfl) ?_
        refine va_get (D := (dC, dI)) (ci := 1) (v := .ref (b 1)) (C := RX1) (T := TX1) (N := 7) hx hb hts in_X1 hown hK hP 0 rfl rfl 1 (by decide) (hts _ q209) (fun _ h9 => h9) rfl dX1_abort_63 ?_
        refine lv_iconst (v := 2) hx hb dX1_abort_66 (by decide) ?_
        refine lv_iload_n hx hb dX1_abort_67 rfl (lv_at hl 2 rfl) ?_
        refine lv_imul hx hb dX1_abort_68 ?_
        refine lv_tope (e2m _) ?_
        refine lv_iconst (v := 1) hx hb dX1_abort_69 (by decide) ?_
        refine lv_iadd hx hb dX1_abort_70 ?_
        refine lv_tope (nI_1 _) ?_
        refine lv_aload_n hx hb dX1_abort_71 rfl (lv_at hl 0 rfl) ?_
        refine va_get (D := (dC, dI)) (ci := 1) (v := .ref (b 5)) (C := RX1) (T := TX1) (N := 7) hx hb hts in_X1 hown hK hP 0 rfl rfl 5 (by decide) (hts _ q213) (fun _ h9 => h9) rfl dX1_abort_72 ?_
        refine lv_iconst (v := 2) hx hb dX1_abort_75 (by decide) ?_
        refine lv_iload_n hx hb dX1_abort_76 rfl (lv_at hl 2 rfl) ?_
        refine lv_imul hx hb dX1_abort_77 ?_
        refine lv_tope (e2m _) ?_
        refine lv_iconst (v := 1) hx hb dX1_abort_78 (by decide) ?_
        refine lv_iadd hx hb dX1_abort_79 ?_
        refine lv_tope (nI_1 _) ?_
        refine xa_iald (D := (dC, dI)) (f := σ.2 5) hx hb hK hP 5 4 rfl rfl (2 * i + 1) rfl (by omega) (by decide) dX1_abort_80 ?_
        refine xa_iast (D := (dC, dI)) (f := (setA (setA σ 0 i (σ.2 4 i)) 1 (2 * i) (σ.2 5 (2 * i))).2 1) hx hb hK hP hD hS 2 1 rfl rfl (2 * i + 1) rfl (by omega) (by decide) dX1_abort_81 (fun H locs hP hD hS => ?_)
        have hP : va_P (dC, dI) vwCl (wM h0 b cA (setA (setA (setA σ 0 i (σ.2 4 i)) 1 (2 * i) (σ.2 5 (2 * i))) 1 (2 * i + 1) (σ.2 5 (2 * i + 1)))) H := hP
        have hD : va_D A (wM h0 b cA (setA (setA (setA σ 0 i (σ.2 4 i)) 1 (2 * i) (σ.2 5 (2 * i))) 1 (2 * i + 1) (σ.2 5 (2 * i + 1)))) := hD
        refine lv_iinc (v := nI (i + 1)) (lv' := [(2, .int (nI (i + 1))), (0, .ref h0), (1, .int z)]) hx hb dX1_abort_82 hl (k := 2) rfl (nI_1 _) (by decide) rfl (fun ls hl => ?_)
        refine lv_goto (tgt := 19) hx hb dX1_abort_85 (by decide) ?_
        rw [show cpyL z 4 5 0 1 (n + 1) i σ = cpyL z 4 5 0 1 n (i + 1) (setA (setA (setA σ 0 i (σ.2 4 i)) 1 (2 * i) (σ.2 5 (2 * i))) 1 (2 * i + 1) (σ.2 5 (2 * i + 1))) from by simp only [cpyL, cpyA, if_neg c_22, if_neg c_31]] at hk
        exact ih (i + 1)  (setA (setA (setA σ 0 i (σ.2 4 i)) 1 (2 * i) (σ.2 5 (2 * i))) 1 (2 * i + 1) (σ.2 5 (2 * i + 1))) (by omega)  _ _ hP hD hS ls (lv_sub hl [1, 2, 0] rfl) hk

set_option maxHeartbeats 4000000 in
theorem metX1_abort (l : Launch) (dC : Nat → ClassId) (dI : Nat → Nat → Nat) (h0 : Nat) (b : Nat → Nat) (cA : Nat → ClassId) (sz : Nat) (σ : XS) : MetI l yX1_abort (ws_ yX1_abort cX1_abort 3 (some .int)) ({ frames := 3, cells := 0, slots := 0, locals := 69 }) (dC, dI) (tM cA) (wM h0 b cA) h0 [] sz σ ((m_abort σ).1) ((m_abort σ).2) := by
  refine Met.ofW (cc := cX1_abort) (maxL := 3) (ret := (some .int)) (by decide) rfl ?_
  intro p e s m args below meth c s₁ B hml hv
  obtain ⟨rfl, hsz, hP, hK, hD0⟩ := hv
  have hx := B.exec
  have hb := B.bytes
  have hr := B.returns
  have hts := atoms_spec (ws := (ws_ yX1_abort cX1_abort 3 (some .int))) B.pre
  have hts : ∀ w ∈ lw_all, w.before _ s = true := fun w h => hts w (List.mem_cons_of_mem _ h)
  have hown : s.vm.findClass RX1 = some m.cls := findClass_of_methodNamed B.named
  have hlocks := B.notSynchronized
  subst hsz
  have hD := hD0.self (sz := s.heap.size)
  generalize hAe : va_A (wM h0 b cA σ) s.heap.size = A at hD ⊢
  have hA : ∀ q : Nat, s.heap.size ≤ q → A q := fun q h => by rw [← hAe]; exact Or.inr h
  have hS : va_S A s.heap s.heap [] := va_S.rf
  have hl := lv_entry ([.ref h0]) (n := 3) (Nat.le_of_ble_eq_true rfl)
  rw [lg_entry_eq]
  generalize (lg_sl ([.ref h0]) ++ List.replicate (3 - (lg_sl ([.ref h0])).length) Slot.unset).toArray = ls at hl ⊢
  have hl : lv_has ls 3 [(0, .ref h0)] := hl
  refine lv_aload_n hx hb dX1_abort_0 rfl (lv_at hl 0 rfl) ?_
  refine ca_i (D := (dC, dI)) (wf := wM h0 b cA) hx hb hml hown hts (metX1_committed l dC dI h0 b cA _ σ ) (cwV 0 hts (lw_V q254 q256 qs20 q27 q257) rfl rfl rfl (by decide +kernel) ⟨Nat.le_of_ble_eq_true rfl, Nat.le_of_ble_eq_true rfl⟩) hK hP hD hS hA 0 1 rfl rfl rfl hl.1 rfl (lv_room (Nat.le_of_ble_eq_true rfl)) dX1_abort_1 ⟨Nat.le_of_ble_eq_true rfl, Nat.le_of_ble_eq_true rfl⟩ (fun H locs hP hD hS => ?_)
  refine lv_istore_n (lv' := [(1, .int (m_comm σ)), (0, .ref h0)]) hx hb dX1_abort_4 rfl hl (by decide) rfl (fun ls hl => ?_)
  refine lv_aload_n hx hb dX1_abort_5 rfl (lv_at hl 1 rfl) ?_
  refine lv_aload_n hx hb dX1_abort_6 rfl (lv_at hl 1 rfl) ?_
  refine va_get (D := (dC, dI)) (ci := 1) (v := .int (σ.1 6)) (C := RX1) (T := TX1) (N := 7) hx hb hts in_X1 hown hK hP 0 rfl rfl 6 (by decide) (hts _ q214) (fun _ h9 => h9) rfl dX1_abort_7 ?_
  refine va_put (D := (dC, dI)) (ci := 1) (v := .int (σ.1 6)) (ty := .int) (C := RX1) (T := TX1) (N := 7) hx hb hts in_X1 tyX1 tyX1_ok nmX1 hown hK hP hD hS 0 rfl rfl 2 (by decide) (hts _ q210) (fun _ h9 => h9) rfl (by decide +kernel) rfl rfl (Nat.le_of_ble_eq_true rfl) dX1_abort_10 (fun H locs hP hD hS => ?_)
  have hP : va_P (dC, dI) vwCl (wM h0 b cA (setF σ 2 (σ.1 6))) H := hP
  have hD : va_D A (wM h0 b cA (setF σ 2 (σ.1 6))) := hD
  refine lv_aload_n hx hb dX1_abort_13 rfl (lv_at hl 1 rfl) ?_
  refine ca_v (D := (dC, dI)) (wf := wM h0 b cA) hx hb hml hown hts (metX1_forget l dC dI h0 b cA _ (setF σ 2 (σ.1 6)) ) (cwV 0 hts (lw_V q204 q206 qs14 q27 q207) rfl rfl rfl (by decide +kernel) ⟨Nat.le_of_ble_eq_true rfl, Nat.le_of_ble_eq_true rfl⟩) hK hP hD hS hA 0 1 rfl rfl rfl hl.1 rfl (lv_room (Nat.le_of_ble_eq_true rfl)) dX1_abort_14 ⟨Nat.le_of_ble_eq_true rfl, Nat.le_of_ble_eq_true rfl⟩ (fun H locs hP hD hS => ?_)
  obtain ⟨τ1, eτ1⟩ : ∃ z : XS, z = rsL 3 4 0 (setF σ 2 (σ.1 6)) := ⟨_, rfl⟩
  rw [← eτ1] at hP hD
  refine lv_iconst (v := 0) hx hb dX1_abort_17 (by decide) ?_
  refine lv_istore_n (lv' := [(2, .int 0), (1, .int (m_comm σ)), (0, .ref h0)]) hx hb dX1_abort_18 rfl hl (by decide) rfl (fun ls hl => ?_)
  refine lpX1_abort_19 hx hb hml hown hts hA hK (m_comm σ) 12 0  τ1 rfl  _ _ hP hD hS ls (lv_sub hl [2, 1, 0] rfl) (fun H locs hP hD hS ls hl => ?_)
  refine lv_aload_n hx hb dX1_abort_88 rfl (lv_at hl 0 rfl) ?_
  refine lv_iload_n hx hb dX1_abort_89 rfl (lv_at hl 1 rfl) ?_
  refine ca_i (D := (dC, dI)) (wf := wM h0 b cA) hx hb hml hown hts (metX1_sizeOf l dC dI h0 b cA _ (cpyL (m_comm σ) 4 5 0 1 12 0 τ1) (m_comm σ)) (cwV 1 hts (lw_V q310 q312 qs24 q27 q313) rfl rfl rfl (by decide +kernel) ⟨Nat.le_of_ble_eq_true rfl, Nat.le_of_ble_eq_true rfl⟩) hK hP hD hS hA 0 1 rfl rfl rfl hl.1 rfl (lv_room (Nat.le_of_ble_eq_true rfl)) dX1_abort_90 ⟨Nat.le_of_ble_eq_true rfl, Nat.le_of_ble_eq_true rfl⟩ (fun H locs hP hD hS => ?_)
  have hqr : m_size (m_comm σ) = (m_abort σ).1 := by simp only [m_abort, ← eτ1]
  have hqs : (cpyL (m_comm σ) 4 5 0 1 12 0 τ1) = (m_abort σ).2 := by simp only [m_abort, ← eτ1]
  exact W.iret (v := m_size (m_comm σ)) hx hb hr (fun t ht hW => ⟨⟨m_size (m_comm σ), (cpyL (m_comm σ) 4 5 0 1 12 0 τ1), rfl, ⟨hqr, hqs⟩, by rw [ht]; exact hP, va_K.moved hW.alike hK, hD⟩, hS.F ht⟩) hS.2.2 dX1_abort_93

set_option maxHeartbeats 4000000 in
theorem metX1_crash (l : Launch) (dC : Nat → ClassId) (dI : Nat → Nat → Nat) (h0 : Nat) (b : Nat → Nat) (cA : Nat → ClassId) (sz : Nat) (σ : XS) (p1 : Int32) : MetI l yX1_crash (ws_ yX1_crash cX1_crash 3 (some .int)) ({ frames := 5, cells := 0, slots := 0, locals := 117 }) (dC, dI) (tM cA) (wM h0 b cA) h0 [.int p1] sz σ ((m_crash σ p1).1) ((m_crash σ p1).2) := by
  refine Met.ofW (cc := cX1_crash) (maxL := 3) (ret := (some .int)) (by decide) rfl ?_
  intro p e s m args below meth c s₁ B hml hv
  obtain ⟨rfl, hsz, hP, hK, hD0⟩ := hv
  have hx := B.exec
  have hb := B.bytes
  have hr := B.returns
  have hts := atoms_spec (ws := (ws_ yX1_crash cX1_crash 3 (some .int))) B.pre
  have hts : ∀ w ∈ lw_all, w.before _ s = true := fun w h => hts w (List.mem_cons_of_mem _ h)
  have hown : s.vm.findClass RX1 = some m.cls := findClass_of_methodNamed B.named
  have hlocks := B.notSynchronized
  subst hsz
  have hD := hD0.self (sz := s.heap.size)
  generalize hAe : va_A (wM h0 b cA σ) s.heap.size = A at hD ⊢
  have hA : ∀ q : Nat, s.heap.size ≤ q → A q := fun q h => by rw [← hAe]; exact Or.inr h
  have hS : va_S A s.heap s.heap [] := va_S.rf
  have hl := lv_entry ([.ref h0, .int p1]) (n := 3) (Nat.le_of_ble_eq_true rfl)
  rw [lg_entry_eq]
  generalize (lg_sl ([.ref h0, .int p1]) ++ List.replicate (3 - (lg_sl ([.ref h0, .int p1])).length) Slot.unset).toArray = ls at hl ⊢
  have hl : lv_has ls 3 [(0, .ref h0), (1, .int p1)] := hl
  refine lv_iload_n hx hb dX1_crash_0 rfl (lv_at hl 1 rfl) ?_
  refine lv_aload_n hx hb dX1_crash_1 rfl (lv_at hl 0 rfl) ?_
  refine ca_i (D := (dC, dI)) (wf := wM h0 b cA) hx hb hml hown hts (metX1_changed l dC dI h0 b cA _ σ ) (cwV 0 hts (lw_V q298 q300 qs22 q27 q301) rfl rfl rfl (by decide +kernel) ⟨Nat.le_of_ble_eq_true rfl, Nat.le_of_ble_eq_true rfl⟩) hK hP hD hS hA 0 1 rfl rfl rfl hl.1 rfl (lv_room (Nat.le_of_ble_eq_true rfl)) dX1_crash_2 ⟨Nat.le_of_ble_eq_true rfl, Nat.le_of_ble_eq_true rfl⟩ (fun H locs hP hD hS => ?_)
  refine lv_icmp_le (tgt := 12) hx hb dX1_crash_5 (by decide) (fun c_5 => ?_) (fun c_5 => ?_)
  · refine lv_iconst (v := 0) hx hb dX1_crash_12 (by decide) ?_
    refine lv_istore_n (lv' := [(2, .int 0), (0, .ref h0), (1, .int p1)]) hx hb dX1_crash_13 rfl hl (by decide) rfl (fun ls hl => ?_)
    refine lv_iload_n hx hb dX1_crash_14 rfl (lv_at hl 0 rfl) ?_
    refine lv_if_eq (tgt := 23) hx hb dX1_crash_15 (by decide) (fun c_15 => ?_) (fun c_15 => ?_)
    · refine lv_aload_n hx hb dX1_crash_23 rfl (lv_at hl 1 rfl) ?_
      refine ca_i (D := (dC, dI)) (wf := wM h0 b cA) hx hb hml hown hts (metX1_abort l dC dI h0 b cA _ σ ) (cwV 0 hts (lw_V q319 q307 q308 q27 q309) rfl rfl rfl (by decide +kernel) ⟨Nat.le_of_ble_eq_true rfl, Nat.le_of_ble_eq_true rfl⟩) hK hP hD hS hA 0 1 rfl rfl rfl hl.1 rfl (lv_room (Nat.le_of_ble_eq_true rfl)) dX1_crash_24 ⟨Nat.le_of_ble_eq_true rfl, Nat.le_of_ble_eq_true rfl⟩ (fun H locs hP hD hS => ?_)
      obtain ⟨τ1, eτ1⟩ : ∃ z : XS, z = (m_abort σ).2 := ⟨_, rfl⟩
      rw [← eτ1] at hP hD
      refine lv_pop hx hb dX1_crash_27 rfl ?_
      refine lv_iload_n hx hb dX1_crash_28 rfl (lv_at hl 0 rfl) ?_
      refine lv_if_eq (tgt := 36) hx hb dX1_crash_29 (by decide) (fun c_29 => ?_) (fun c_29 => ?_)
      · refine lv_iconst (v := 0) hx hb dX1_crash_36 (by decide) ?_
        have hqr : 0 = (m_crash σ p1).1 := by simp only [m_crash, if_pos c_5, if_pos c_15, if_pos c_29, ← eτ1]
        have hqs : τ1 = (m_crash σ p1).2 := by simp only [m_crash, if_pos c_5, if_pos c_15, if_pos c_29, ← eτ1]
        exact W.iret (v := 0) hx hb hr (fun t ht hW => ⟨⟨0, τ1, rfl, ⟨hqr, hqs⟩, by rw [ht]; exact hP, va_K.moved hW.alike hK, hD⟩, hS.F ht⟩) hS.2.2 dX1_crash_37
      · exact absurd rfl c_29
    · exact absurd rfl c_15
  · refine lv_iconst (v := 1) hx hb dX1_crash_8 (by decide) ?_
    refine lv_goto (tgt := 13) hx hb dX1_crash_9 (by decide) ?_
    refine lv_istore_n (lv' := [(2, .int 1), (0, .ref h0), (1, .int p1)]) hx hb dX1_crash_13 rfl hl (by decide) rfl (fun ls hl => ?_)
    refine lv_iload_n hx hb dX1_crash_14 rfl (lv_at hl 0 rfl) ?_
    refine lv_if_eq (tgt := 23) hx hb dX1_crash_15 (by decide) (fun c_15 => ?_) (fun c_15 => ?_)
    · exact absurd c_15 (by decide)
    · refine lv_aload_n hx hb dX1_crash_18 rfl (lv_at hl 1 rfl) ?_
      refine ca_i (D := (dC, dI)) (wf := wM h0 b cA) hx hb hml hown hts (metX1_commit l dC dI h0 b cA _ σ ) (cwV 0 hts (lw_V q318 q295 q296 q27 q297) rfl rfl rfl (by decide +kernel) ⟨Nat.le_of_ble_eq_true rfl, Nat.le_of_ble_eq_true rfl⟩) hK hP hD hS hA 0 1 rfl rfl rfl hl.1 rfl (lv_room (Nat.le_of_ble_eq_true rfl)) dX1_crash_19 ⟨Nat.le_of_ble_eq_true rfl, Nat.le_of_ble_eq_true rfl⟩ (fun H locs hP hD hS => ?_)
      obtain ⟨τ1, eτ1⟩ : ∃ z : XS, z = (m_commit σ).2 := ⟨_, rfl⟩
      rw [← eτ1] at hP hD
      refine lv_pop hx hb dX1_crash_22 rfl ?_
      refine lv_aload_n hx hb dX1_crash_23 rfl (lv_at hl 1 rfl) ?_
      refine ca_i (D := (dC, dI)) (wf := wM h0 b cA) hx hb hml hown hts (metX1_abort l dC dI h0 b cA _ τ1 ) (cwV 0 hts (lw_V q319 q307 q308 q27 q309) rfl rfl rfl (by decide +kernel) ⟨Nat.le_of_ble_eq_true rfl, Nat.le_of_ble_eq_true rfl⟩) hK hP hD hS hA 0 1 rfl rfl rfl hl.1 rfl (lv_room (Nat.le_of_ble_eq_true rfl)) dX1_crash_24 ⟨Nat.le_of_ble_eq_true rfl, Nat.le_of_ble_eq_true rfl⟩ (fun H locs hP hD hS => ?_)
      obtain ⟨τ2, eτ2⟩ : ∃ z : XS, z = (m_abort τ1).2 := ⟨_, rfl⟩
      rw [← eτ2] at hP hD
      refine lv_pop hx hb dX1_crash_27 rfl ?_
      refine lv_iload_n hx hb dX1_crash_28 rfl (lv_at hl 0 rfl) ?_
      refine lv_if_eq (tgt := 36) hx hb dX1_crash_29 (by decide) (fun c_29 => ?_) (fun c_29 => ?_)
      · exact absurd c_29 (by decide)
      · refine lv_iconst (v := 1) hx hb dX1_crash_32 (by decide) ?_
        refine lv_goto (tgt := 37) hx hb dX1_crash_33 (by decide) ?_
        have hqr : 1 = (m_crash σ p1).1 := by simp only [m_crash, if_neg c_5, if_neg c_15, if_neg c_29, ← eτ1, ← eτ2]
        have hqs : τ2 = (m_crash σ p1).2 := by simp only [m_crash, if_neg c_5, if_neg c_15, if_neg c_29, ← eτ1, ← eτ2]
        exact W.iret (v := 1) hx hb hr (fun t ht hW => ⟨⟨1, τ2, rfl, ⟨hqr, hqs⟩, by rw [ht]; exact hP, va_K.moved hW.alike hK, hD⟩, hS.F ht⟩) hS.2.2 dX1_crash_37

set_option maxHeartbeats 4000000 in
theorem metX1_reachable (l : Launch) (dC : Nat → ClassId) (dI : Nat → Nat → Nat) (h0 : Nat) (b : Nat → Nat) (cA : Nat → ClassId) (sz : Nat) (σ : XS) : MetI l yX1_reachable (ws_ yX1_reachable cX1_reachable 2 (some .int)) ({ frames := 3, cells := 0, slots := 0, locals := 69 }) (dC, dI) (tM cA) (wM h0 b cA) h0 [] sz σ (m_reachable σ) σ := by
  refine Met.ofW (cc := cX1_reachable) (maxL := 2) (ret := (some .int)) (by decide) rfl ?_
  intro p e s m args below meth c s₁ B hml hv
  obtain ⟨rfl, hsz, hP, hK, hD0⟩ := hv
  have hx := B.exec
  have hb := B.bytes
  have hr := B.returns
  have hts := atoms_spec (ws := (ws_ yX1_reachable cX1_reachable 2 (some .int))) B.pre
  have hts : ∀ w ∈ lw_all, w.before _ s = true := fun w h => hts w (List.mem_cons_of_mem _ h)
  have hown : s.vm.findClass RX1 = some m.cls := findClass_of_methodNamed B.named
  have hlocks := B.notSynchronized
  subst hsz
  have hD := hD0.self (sz := s.heap.size)
  generalize hAe : va_A (wM h0 b cA σ) s.heap.size = A at hD ⊢
  have hA : ∀ q : Nat, s.heap.size ≤ q → A q := fun q h => by rw [← hAe]; exact Or.inr h
  have hS : va_S A s.heap s.heap [] := va_S.rf
  have hl := lv_entry ([.ref h0]) (n := 2) (Nat.le_of_ble_eq_true rfl)
  rw [lg_entry_eq]
  generalize (lg_sl ([.ref h0]) ++ List.replicate (2 - (lg_sl ([.ref h0])).length) Slot.unset).toArray = ls at hl ⊢
  have hl : lv_has ls 2 [(0, .ref h0)] := hl
  refine lv_aload_n hx hb dX1_reachable_0 rfl (lv_at hl 0 rfl) ?_
  refine ca_i (D := (dC, dI)) (wf := wM h0 b cA) hx hb hml hown hts (metX1_reached l dC dI h0 b cA _ σ ) (cwV 0 hts (lw_V q302 q304 qs23 q27 q305) rfl rfl rfl (by decide +kernel) ⟨Nat.le_of_ble_eq_true rfl, Nat.le_of_ble_eq_true rfl⟩) hK hP hD hS hA 0 1 rfl rfl rfl hl.1 rfl (lv_room (Nat.le_of_ble_eq_true rfl)) dX1_reachable_1 ⟨Nat.le_of_ble_eq_true rfl, Nat.le_of_ble_eq_true rfl⟩ (fun H locs hP hD hS => ?_)
  refine lv_istore_n (lv' := [(1, .int (m_reach σ)), (0, .ref h0)]) hx hb dX1_reachable_4 rfl hl (by decide) rfl (fun ls hl => ?_)
  refine lv_aload_n hx hb dX1_reachable_5 rfl (lv_at hl 1 rfl) ?_
  refine lv_iload_n hx hb dX1_reachable_6 rfl (lv_at hl 0 rfl) ?_
  refine ca_i (D := (dC, dI)) (wf := wM h0 b cA) hx hb hml hown hts (metX1_sizeOf l dC dI h0 b cA _ σ (m_reach σ)) (cwV 1 hts (lw_V q310 q312 qs24 q27 q313) rfl rfl rfl (by decide +kernel) ⟨Nat.le_of_ble_eq_true rfl, Nat.le_of_ble_eq_true rfl⟩) hK hP hD hS hA 0 1 rfl rfl rfl hl.1 rfl (lv_room (Nat.le_of_ble_eq_true rfl)) dX1_reachable_7 ⟨Nat.le_of_ble_eq_true rfl, Nat.le_of_ble_eq_true rfl⟩ (fun H locs hP hD hS => ?_)
  have hqr : m_size (m_reach σ) = m_reachable σ := by simp only [m_reachable]
  have hqs : σ = σ := rfl
  exact W.iret (v := m_size (m_reach σ)) hx hb hr (fun t ht hW => ⟨⟨m_size (m_reach σ), σ, rfl, ⟨hqr, hqs⟩, by rw [ht]; exact hP, va_K.moved hW.alike hK, hD⟩, hS.F ht⟩) hS.2.2 dX1_reachable_10
end
section
set_option maxRecDepth 100000
def x_zero : XS := (fun _ => 0, fun _ _ => 0)
def x_init : XS := rsL 16 4 0 (setF (setF x_zero 2 (-1)) 15 (-1))
def m_init : XS := rsL 3 4 0 (setF (setF x_zero 2 (-1)) 6 (-1))
set_option maxHeartbeats 4000000 in
theorem lpX0_init_79 {p : Program} {l : Launch} {e : Env} {s : State} {m : MethodId} {below : List Frame} {meth : Method} {c : Code} {args : Array Value} {Q : State → Prop} {dC : Nat → ClassId} {dI : Nat → Nat → Nat} {A : Nat → Prop} {h0 : Nat} {b : Nat → Nat} {cA : Nat → ClassId} (hx : p.tables.exec = Jvm.exec) (hb : c.code = cX0_init) (hml : c.maxLocals = 2) (hown : s.vm.findClass RX0 = some m.cls) (hts : ∀ w ∈ lw_all, w.before args s = true) (hA : ∀ q : Nat, s.heap.size ≤ q → A q) (hK : va_K (dC, dI) vwCl (tX cA) s) :
    ∀ (n i : Nat) (σ : XS), i + n = 4 → ∀ (H : Heap) (locs : List Loc), va_P (dC, dI) vwCl (wX h0 b cA σ) H → va_D A (wX h0 b cA σ) → va_S A s.heap H locs → ∀ (ls : Array Slot), lv_has ls 2 [(0, .ref h0), (1, .int (nI i))] →
    (∀ (H : Heap) (locs : List Loc), va_P (dC, dI) vwCl (wX h0 b cA (rsL 16 n i σ)) H → va_D A (wX h0 b cA (rsL 16 n i σ)) → va_S A s.heap H locs → ∀ (ls : Array Slot), lv_has ls 2 [] → W p l e (headSpec (ws_ yX0_init cX0_init 2 none) ({ frames := 1, cells := 8, slots := 124, locals := 12 })).room s m args below meth c H locs 8 124 Q (F0 m 97 ls [])) → W p l e (headSpec (ws_ yX0_init cX0_init 2 none) ({ frames := 1, cells := 8, slots := 124, locals := 12 })).room s m args below meth c H locs 8 124 Q (F0 m 79 ls []) := by
  intro n
  induction n with
  | zero =>
    intro i σ hin H locs hP hD hS ls hl hk
    obtain rfl : i = 4 := by omega
    refine lv_iload_n hx hb dX0_init_79 rfl (lv_at hl 1 rfl) ?_
    refine lv_iconst (v := 4) hx hb dX0_init_80 (by decide) ?_
    refine lv_icmp_ge (tgt := 97) hx hb dX0_init_81 (by decide) (fun c_81 => ?_) (fun c_81 => ?_)
    · exact hk _ _ hP hD hS ls (lv_sub hl [] rfl)
    · exact absurd (by decide +kernel) c_81
  | succ n ih =>
    intro i σ hin H locs hP hD hS ls hl hk
    have hi : i < 4 := by omega
    refine lv_iload_n hx hb dX0_init_79 rfl (lv_at hl 1 rfl) ?_
    refine lv_iconst (v := 4) hx hb dX0_init_80 (by decide) ?_
    refine lv_icmp_ge (tgt := 97) hx hb dX0_init_81 (by decide) (fun c_81 => ?_) (fun c_81 => ?_)
    · exact absurd c_81 (nI_ge (b := 4) (by omega) (by decide))
    · refine lv_aload_n hx hb dX0_init_84 rfl (lv_at hl 0 rfl) ?_
      refine va_get (D := (dC, dI)) (ci := 0) (v := .ref (b 16)) (C := RX0) (T := TX0) (N := 17) hx hb hts in_X0 hown hK hP 0 rfl rfl 16 (by decide) (hts _ q52) (fun _ h9 => h9) rfl dX0_init_85 ?_
      refine lv_iload_n hx hb dX0_init_88 rfl (lv_at hl 1 rfl) ?_
      refine lv_iconst (v := (-1)) hx hb dX0_init_89 (by decide) ?_
      refine xa_bast (D := (dC, dI)) (f := σ.2 16) hx hb hK hP hD hS 8 7 rfl rfl i rfl (by omega) (by decide) (by decide +kernel) dX0_init_90 (fun H locs hP hD hS => ?_)
      have hP : va_P (dC, dI) vwCl (wX h0 b cA (setA σ 16 i (-1))) H := hP
      have hD : va_D A (wX h0 b cA (setA σ 16 i (-1))) := hD
      refine lv_iinc (v := nI (i + 1)) (lv' := [(1, .int (nI (i + 1))), (0, .ref h0)]) hx hb dX0_init_91 hl (k := 1) rfl (nI_1 _) (by decide) rfl (fun ls hl => ?_)
      refine lv_goto (tgt := 79) hx hb dX0_init_94 (by decide) ?_
      rw [show rsL 16 (n + 1) i σ = rsL 16 n (i + 1) (setA σ 16 i (-1)) from by simp only [rsL, if_neg c_81]] at hk
      exact ih (i + 1)  (setA σ 16 i (-1)) (by omega)  _ _ hP hD hS ls (lv_sub hl [1, 0] rfl) hk

set_option maxHeartbeats 8000000 in
theorem metX0_init (l : Launch) (dC : Nat → ClassId) (dI : Nat → Nat → Nat) (h0 : Nat) (sz : Nat) : Met l yX0_init (ws_ yX0_init cX0_init 2 none) ({ frames := 1, cells := 8, slots := 124, locals := 12 }) (va_Pc [.ref h0] (fun U => U.heap.size = sz ∧ va_P (dC, dI) vwCl [(h0, .inr (0, [.null, .null, .int 0, .int 0, .int 0, .null, .null, .null, .int 0, .int 0, .int 0, .int 0, .null, .null, .int 0, .int 0, .null]))] U.heap ∧ va_K (dC, dI) vwCl [] U ∧ va_D (fun _ => True) [(h0, .inr (0, [.null, .null, .int 0, .int 0, .int 0, .null, .null, .null, .int 0, .int 0, .int 0, .int 0, .null, .null, .int 0, .int 0, .null]))])) (va_Qv (fun u : (Nat → Nat) × (Nat → ClassId) × XS => u.2.2 = x_init) (fun u t => cBW (dC, dI) (tX u.2.1) (wX h0 u.1 u.2.1) (va_A [(h0, .inr (0, [.null, .null, .int 0, .int 0, .int 0, .null, .null, .null, .int 0, .int 0, .int 0, .int 0, .null, .null, .int 0, .int 0, .null]))] sz) u.2.2 t) (va_A [(h0, .inr (0, [.null, .null, .int 0, .int 0, .int 0, .null, .null, .null, .int 0, .int 0, .int 0, .int 0, .null, .null, .int 0, .int 0, .null]))] sz)) 8 124 (va_A [(h0, .inr (0, [.null, .null, .int 0, .int 0, .int 0, .null, .null, .null, .int 0, .int 0, .int 0, .int 0, .null, .null, .int 0, .int 0, .null]))] sz) := by
  refine Met.ofW (cc := cX0_init) (maxL := 2) (ret := none) (by decide) rfl ?_
  intro p e s m args below meth c s₁ B hml hv
  obtain ⟨rfl, hsz, hP, hK, hD0⟩ := hv
  have hx := B.exec
  have hb := B.bytes
  have hr := B.returns
  have hts := atoms_spec (ws := (ws_ yX0_init cX0_init 2 none)) B.pre
  have hts : ∀ w ∈ lw_all, w.before _ s = true := fun w h => hts w (List.mem_cons_of_mem _ h)
  have hown : s.vm.findClass RX0 = some m.cls := findClass_of_methodNamed B.named
  have hlocks := B.notSynchronized
  have hin : meth.name = "<init>" := (name_of_methodNamed B.named B.method).1
  subst hsz
  have hD := hD0.self (sz := s.heap.size)
  generalize hAe : va_A [(h0, .inr (0, [.null, .null, .int 0, .int 0, .int 0, .null, .null, .null, .int 0, .int 0, .int 0, .int 0, .null, .null, .int 0, .int 0, .null]))] s.heap.size = A at hD ⊢
  have hA : ∀ q : Nat, s.heap.size ≤ q → A q := fun q h => by rw [← hAe]; exact Or.inr h
  have hS : va_S A s.heap s.heap [] := va_S.rf
  have hP : va_P (dC, dI) vwCl [(h0, .inr (0, [.null, .null, .int 0, .int 0, .int 0, .null, .null, .null, .int 0, .int 0, .int 0, .int 0, .null, .null, .int 0, .int 0, .null]))] s.heap := hP
  have hl := lv_entry ([.ref h0]) (n := 2) (Nat.le_of_ble_eq_true rfl)
  rw [lg_entry_eq]
  generalize (lg_sl ([.ref h0]) ++ List.replicate (2 - (lg_sl ([.ref h0])).length) Slot.unset).toArray = ls at hl ⊢
  have hl : lv_has ls 2 [(0, .ref h0)] := hl
  refine lv_aload_n hx hb dX0_init_0 rfl (lv_at hl 0 rfl) ?_
  refine W.objInit hx hb hown (hts _ q33) (hts _ q34) (hts _ q35) rfl (by rw [hml]; exact hl.1) rfl dX0_init_1 (Nat.le_of_ble_eq_true rfl) (Nat.le_of_ble_eq_true rfl) ?_
  refine W.eq (g2 := F0 m 4 ls []) rfl ?_
  refine lv_aload_n hx hb dX0_init_4 rfl (lv_at hl 0 rfl) ?_
  refine lv_bipush (v := 12) hx hb dX0_init_5 (by decide) ?_
  refine va_newa (atype := .int) (a0 := (12, .inl (fun _ => 0))) (N' := 12) (ty := .int) hx hb (hts _ q88) rfl hK hP hD hS hA (fun _ => rfl) (by decide) (by decide) (by decide) (Nat.le_of_ble_eq_true rfl) (Nat.le_of_ble_eq_true rfl) dX0_init_7 (fun qa0 ca0 H hK hP hD hS => ?_)
  have hP : va_P (dC, dI) vwCl [(h0, .inr (0, [.null, .null, .int 0, .int 0, .int 0, .null, .null, .null, .int 0, .int 0, .int 0, .int 0, .null, .null, .int 0, .int 0, .null])), (qa0, .inl (ca0, 12, .inl (fun _ => 0)))] H := hP
  have hD : va_D A [(h0, .inr (0, [.null, .null, .int 0, .int 0, .int 0, .null, .null, .null, .int 0, .int 0, .int 0, .int 0, .null, .null, .int 0, .int 0, .null])), (qa0, .inl (ca0, 12, .inl (fun _ => 0)))] := hD
  refine W.widen (k := 1) (n := 12) (Nat.le_refl _) (Nat.le_refl _) ?_
  refine va_putF (D := (dC, dI)) (ci := 0) (v := .ref qa0) (ty := .array .int) (C := RX0) (T := TX0) (N := 17) hx hb hts in_X0 tyX0 tyX0_ok nmX0 hown hK hP hD hS 0 rfl rfl 0 (by decide) (hts _ q36) (fun _ h9 => h9) rfl hin rfl (by decide +kernel) rfl rfl (Nat.le_of_ble_eq_true rfl) dX0_init_9 (fun H locs hP hD hS => ?_)
  have hP : va_P (dC, dI) vwCl [(h0, .inr (0, [.ref qa0, .null, .int 0, .int 0, .int 0, .null, .null, .null, .int 0, .int 0, .int 0, .int 0, .null, .null, .int 0, .int 0, .null])), (qa0, .inl (ca0, 12, .inl (fun _ => 0)))] H := hP
  have hD : va_D A [(h0, .inr (0, [.ref qa0, .null, .int 0, .int 0, .int 0, .null, .null, .null, .int 0, .int 0, .int 0, .int 0, .null, .null, .int 0, .int 0, .null])), (qa0, .inl (ca0, 12, .inl (fun _ => 0)))] := hD
  refine lv_aload_n hx hb dX0_init_12 rfl (lv_at hl 0 rfl) ?_
  refine lv_bipush (v := 24) hx hb dX0_init_13 (by decide) ?_
  refine va_newa (atype := .byte) (a0 := (24, .inl (fun _ => 0))) (N' := 24) (ty := .byte) hx hb (hts _ q89) rfl hK hP hD hS hA (fun _ => rfl) (by decide) (by decide) (by decide) (Nat.le_of_ble_eq_true rfl) (Nat.le_of_ble_eq_true rfl) dX0_init_15 (fun qa1 ca1 H hK hP hD hS => ?_)
  have hP : va_P (dC, dI) vwCl [(h0, .inr (0, [.ref qa0, .null, .int 0, .int 0, .int 0, .null, .null, .null, .int 0, .int 0, .int 0, .int 0, .null, .null, .int 0, .int 0, .null])), (qa0, .inl (ca0, 12, .inl (fun _ => 0))), (qa1, .inl (ca1, 24, .inl (fun _ => 0)))] H := hP
  have hD : va_D A [(h0, .inr (0, [.ref qa0, .null, .int 0, .int 0, .int 0, .null, .null, .null, .int 0, .int 0, .int 0, .int 0, .null, .null, .int 0, .int 0, .null])), (qa0, .inl (ca0, 12, .inl (fun _ => 0))), (qa1, .inl (ca1, 24, .inl (fun _ => 0)))] := hD
  refine W.widen (k := 2) (n := 36) (Nat.le_refl _) (Nat.le_refl _) ?_
  refine va_putF (D := (dC, dI)) (ci := 0) (v := .ref qa1) (ty := .array .byte) (C := RX0) (T := TX0) (N := 17) hx hb hts in_X0 tyX0 tyX0_ok nmX0 hown hK hP hD hS 0 rfl rfl 1 (by decide) (hts _ q37) (fun _ h9 => h9) rfl hin rfl (by decide +kernel) rfl rfl (Nat.le_of_ble_eq_true rfl) dX0_init_17 (fun H locs hP hD hS => ?_)
  have hP : va_P (dC, dI) vwCl [(h0, .inr (0, [.ref qa0, .ref qa1, .int 0, .int 0, .int 0, .null, .null, .null, .int 0, .int 0, .int 0, .int 0, .null, .null, .int 0, .int 0, .null])), (qa0, .inl (ca0, 12, .inl (fun _ => 0))), (qa1, .inl (ca1, 24, .inl (fun _ => 0)))] H := hP
  have hD : va_D A [(h0, .inr (0, [.ref qa0, .ref qa1, .int 0, .int 0, .int 0, .null, .null, .null, .int 0, .int 0, .int 0, .int 0, .null, .null, .int 0, .int 0, .null])), (qa0, .inl (ca0, 12, .inl (fun _ => 0))), (qa1, .inl (ca1, 24, .inl (fun _ => 0)))] := hD
  refine lv_aload_n hx hb dX0_init_20 rfl (lv_at hl 0 rfl) ?_
  refine lv_bipush (v := 12) hx hb dX0_init_21 (by decide) ?_
  refine va_newa (atype := .byte) (a0 := (12, .inl (fun _ => 0))) (N' := 12) (ty := .byte) hx hb (hts _ q89) rfl hK hP hD hS hA (fun _ => rfl) (by decide) (by decide) (by decide) (Nat.le_of_ble_eq_true rfl) (Nat.le_of_ble_eq_true rfl) dX0_init_23 (fun qa5 ca5 H hK hP hD hS => ?_)
  have hP : va_P (dC, dI) vwCl [(h0, .inr (0, [.ref qa0, .ref qa1, .int 0, .int 0, .int 0, .null, .null, .null, .int 0, .int 0, .int 0, .int 0, .null, .null, .int 0, .int 0, .null])), (qa0, .inl (ca0, 12, .inl (fun _ => 0))), (qa1, .inl (ca1, 24, .inl (fun _ => 0))), (qa5, .inl (ca5, 12, .inl (fun _ => 0)))] H := hP
  have hD : va_D A [(h0, .inr (0, [.ref qa0, .ref qa1, .int 0, .int 0, .int 0, .null, .null, .null, .int 0, .int 0, .int 0, .int 0, .null, .null, .int 0, .int 0, .null])), (qa0, .inl (ca0, 12, .inl (fun _ => 0))), (qa1, .inl (ca1, 24, .inl (fun _ => 0))), (qa5, .inl (ca5, 12, .inl (fun _ => 0)))] := hD
  refine W.widen (k := 3) (n := 48) (Nat.le_refl _) (Nat.le_refl _) ?_
  refine va_putF (D := (dC, dI)) (ci := 0) (v := .ref qa5) (ty := .array .byte) (C := RX0) (T := TX0) (N := 17) hx hb hts in_X0 tyX0 tyX0_ok nmX0 hown hK hP hD hS 0 rfl rfl 5 (by decide) (hts _ q41) (fun _ h9 => h9) rfl hin rfl (by decide +kernel) rfl rfl (Nat.le_of_ble_eq_true rfl) dX0_init_25 (fun H locs hP hD hS => ?_)
  have hP : va_P (dC, dI) vwCl [(h0, .inr (0, [.ref qa0, .ref qa1, .int 0, .int 0, .int 0, .ref qa5, .null, .null, .int 0, .int 0, .int 0, .int 0, .null, .null, .int 0, .int 0, .null])), (qa0, .inl (ca0, 12, .inl (fun _ => 0))), (qa1, .inl (ca1, 24, .inl (fun _ => 0))), (qa5, .inl (ca5, 12, .inl (fun _ => 0)))] H := hP
  have hD : va_D A [(h0, .inr (0, [.ref qa0, .ref qa1, .int 0, .int 0, .int 0, .ref qa5, .null, .null, .int 0, .int 0, .int 0, .int 0, .null, .null, .int 0, .int 0, .null])), (qa0, .inl (ca0, 12, .inl (fun _ => 0))), (qa1, .inl (ca1, 24, .inl (fun _ => 0))), (qa5, .inl (ca5, 12, .inl (fun _ => 0)))] := hD
  refine lv_aload_n hx hb dX0_init_28 rfl (lv_at hl 0 rfl) ?_
  refine lv_bipush (v := 12) hx hb dX0_init_29 (by decide) ?_
  refine va_newa (atype := .int) (a0 := (12, .inl (fun _ => 0))) (N' := 12) (ty := .int) hx hb (hts _ q88) rfl hK hP hD hS hA (fun _ => rfl) (by decide) (by decide) (by decide) (Nat.le_of_ble_eq_true rfl) (Nat.le_of_ble_eq_true rfl) dX0_init_31 (fun qa6 ca6 H hK hP hD hS => ?_)
  have hP : va_P (dC, dI) vwCl [(h0, .inr (0, [.ref qa0, .ref qa1, .int 0, .int 0, .int 0, .ref qa5, .null, .null, .int 0, .int 0, .int 0, .int 0, .null, .null, .int 0, .int 0, .null])), (qa0, .inl (ca0, 12, .inl (fun _ => 0))), (qa1, .inl (ca1, 24, .inl (fun _ => 0))), (qa5, .inl (ca5, 12, .inl (fun _ => 0))), (qa6, .inl (ca6, 12, .inl (fun _ => 0)))] H := hP
  have hD : va_D A [(h0, .inr (0, [.ref qa0, .ref qa1, .int 0, .int 0, .int 0, .ref qa5, .null, .null, .int 0, .int 0, .int 0, .int 0, .null, .null, .int 0, .int 0, .null])), (qa0, .inl (ca0, 12, .inl (fun _ => 0))), (qa1, .inl (ca1, 24, .inl (fun _ => 0))), (qa5, .inl (ca5, 12, .inl (fun _ => 0))), (qa6, .inl (ca6, 12, .inl (fun _ => 0)))] := hD
  refine W.widen (k := 4) (n := 60) (Nat.le_refl _) (Nat.le_refl _) ?_
  refine va_putF (D := (dC, dI)) (ci := 0) (v := .ref qa6) (ty := .array .int) (C := RX0) (T := TX0) (N := 17) hx hb hts in_X0 tyX0 tyX0_ok nmX0 hown hK hP hD hS 0 rfl rfl 6 (by decide) (hts _ q42) (fun _ h9 => h9) rfl hin rfl (by decide +kernel) rfl rfl (Nat.le_of_ble_eq_true rfl) dX0_init_33 (fun H locs hP hD hS => ?_)
  have hP : va_P (dC, dI) vwCl [(h0, .inr (0, [.ref qa0, .ref qa1, .int 0, .int 0, .int 0, .ref qa5, .ref qa6, .null, .int 0, .int 0, .int 0, .int 0, .null, .null, .int 0, .int 0, .null])), (qa0, .inl (ca0, 12, .inl (fun _ => 0))), (qa1, .inl (ca1, 24, .inl (fun _ => 0))), (qa5, .inl (ca5, 12, .inl (fun _ => 0))), (qa6, .inl (ca6, 12, .inl (fun _ => 0)))] H := hP
  have hD : va_D A [(h0, .inr (0, [.ref qa0, .ref qa1, .int 0, .int 0, .int 0, .ref qa5, .ref qa6, .null, .int 0, .int 0, .int 0, .int 0, .null, .null, .int 0, .int 0, .null])), (qa0, .inl (ca0, 12, .inl (fun _ => 0))), (qa1, .inl (ca1, 24, .inl (fun _ => 0))), (qa5, .inl (ca5, 12, .inl (fun _ => 0))), (qa6, .inl (ca6, 12, .inl (fun _ => 0)))] := hD
  refine lv_aload_n hx hb dX0_init_36 rfl (lv_at hl 0 rfl) ?_
  refine lv_bipush (v := 24) hx hb dX0_init_37 (by decide) ?_
  refine va_newa (atype := .byte) (a0 := (24, .inl (fun _ => 0))) (N' := 24) (ty := .byte) hx hb (hts _ q89) rfl hK hP hD hS hA (fun _ => rfl) (by decide) (by decide) (by decide) (Nat.le_of_ble_eq_true rfl) (Nat.le_of_ble_eq_true rfl) dX0_init_39 (fun qa7 ca7 H hK hP hD hS => ?_)
  have hP : va_P (dC, dI) vwCl [(h0, .inr (0, [.ref qa0, .ref qa1, .int 0, .int 0, .int 0, .ref qa5, .ref qa6, .null, .int 0, .int 0, .int 0, .int 0, .null, .null, .int 0, .int 0, .null])), (qa0, .inl (ca0, 12, .inl (fun _ => 0))), (qa1, .inl (ca1, 24, .inl (fun _ => 0))), (qa5, .inl (ca5, 12, .inl (fun _ => 0))), (qa6, .inl (ca6, 12, .inl (fun _ => 0))), (qa7, .inl (ca7, 24, .inl (fun _ => 0)))] H := hP
  have hD : va_D A [(h0, .inr (0, [.ref qa0, .ref qa1, .int 0, .int 0, .int 0, .ref qa5, .ref qa6, .null, .int 0, .int 0, .int 0, .int 0, .null, .null, .int 0, .int 0, .null])), (qa0, .inl (ca0, 12, .inl (fun _ => 0))), (qa1, .inl (ca1, 24, .inl (fun _ => 0))), (qa5, .inl (ca5, 12, .inl (fun _ => 0))), (qa6, .inl (ca6, 12, .inl (fun _ => 0))), (qa7, .inl (ca7, 24, .inl (fun _ => 0)))] := hD
  refine W.widen (k := 5) (n := 84) (Nat.le_refl _) (Nat.le_refl _) ?_
  refine va_putF (D := (dC, dI)) (ci := 0) (v := .ref qa7) (ty := .array .byte) (C := RX0) (T := TX0) (N := 17) hx hb hts in_X0 tyX0 tyX0_ok nmX0 hown hK hP hD hS 0 rfl rfl 7 (by decide) (hts _ q43) (fun _ h9 => h9) rfl hin rfl (by decide +kernel) rfl rfl (Nat.le_of_ble_eq_true rfl) dX0_init_41 (fun H locs hP hD hS => ?_)
  have hP : va_P (dC, dI) vwCl [(h0, .inr (0, [.ref qa0, .ref qa1, .int 0, .int 0, .int 0, .ref qa5, .ref qa6, .ref qa7, .int 0, .int 0, .int 0, .int 0, .null, .null, .int 0, .int 0, .null])), (qa0, .inl (ca0, 12, .inl (fun _ => 0))), (qa1, .inl (ca1, 24, .inl (fun _ => 0))), (qa5, .inl (ca5, 12, .inl (fun _ => 0))), (qa6, .inl (ca6, 12, .inl (fun _ => 0))), (qa7, .inl (ca7, 24, .inl (fun _ => 0)))] H := hP
  have hD : va_D A [(h0, .inr (0, [.ref qa0, .ref qa1, .int 0, .int 0, .int 0, .ref qa5, .ref qa6, .ref qa7, .int 0, .int 0, .int 0, .int 0, .null, .null, .int 0, .int 0, .null])), (qa0, .inl (ca0, 12, .inl (fun _ => 0))), (qa1, .inl (ca1, 24, .inl (fun _ => 0))), (qa5, .inl (ca5, 12, .inl (fun _ => 0))), (qa6, .inl (ca6, 12, .inl (fun _ => 0))), (qa7, .inl (ca7, 24, .inl (fun _ => 0)))] := hD
  refine lv_aload_n hx hb dX0_init_44 rfl (lv_at hl 0 rfl) ?_
  refine lv_bipush (v := 12) hx hb dX0_init_45 (by decide) ?_
  refine va_newa (atype := .int) (a0 := (12, .inl (fun _ => 0))) (N' := 12) (ty := .int) hx hb (hts _ q88) rfl hK hP hD hS hA (fun _ => rfl) (by decide) (by decide) (by decide) (Nat.le_of_ble_eq_true rfl) (Nat.le_of_ble_eq_true rfl) dX0_init_47 (fun qa12 ca12 H hK hP hD hS => ?_)
  have hP : va_P (dC, dI) vwCl [(h0, .inr (0, [.ref qa0, .ref qa1, .int 0, .int 0, .int 0, .ref qa5, .ref qa6, .ref qa7, .int 0, .int 0, .int 0, .int 0, .null, .null, .int 0, .int 0, .null])), (qa0, .inl (ca0, 12, .inl (fun _ => 0))), (qa1, .inl (ca1, 24, .inl (fun _ => 0))), (qa5, .inl (ca5, 12, .inl (fun _ => 0))), (qa6, .inl (ca6, 12, .inl (fun _ => 0))), (qa7, .inl (ca7, 24, .inl (fun _ => 0))), (qa12, .inl (ca12, 12, .inl (fun _ => 0)))] H := hP
  have hD : va_D A [(h0, .inr (0, [.ref qa0, .ref qa1, .int 0, .int 0, .int 0, .ref qa5, .ref qa6, .ref qa7, .int 0, .int 0, .int 0, .int 0, .null, .null, .int 0, .int 0, .null])), (qa0, .inl (ca0, 12, .inl (fun _ => 0))), (qa1, .inl (ca1, 24, .inl (fun _ => 0))), (qa5, .inl (ca5, 12, .inl (fun _ => 0))), (qa6, .inl (ca6, 12, .inl (fun _ => 0))), (qa7, .inl (ca7, 24, .inl (fun _ => 0))), (qa12, .inl (ca12, 12, .inl (fun _ => 0)))] := hD
  refine W.widen (k := 6) (n := 96) (Nat.le_refl _) (Nat.le_refl _) ?_
  refine va_putF (D := (dC, dI)) (ci := 0) (v := .ref qa12) (ty := .array .int) (C := RX0) (T := TX0) (N := 17) hx hb hts in_X0 tyX0 tyX0_ok nmX0 hown hK hP hD hS 0 rfl rfl 12 (by decide) (hts _ q48) (fun _ h9 => h9) rfl hin rfl (by decide +kernel) rfl rfl (Nat.le_of_ble_eq_true rfl) dX0_init_49 (fun H locs hP hD hS => ?_)
  have hP : va_P (dC, dI) vwCl [(h0, .inr (0, [.ref qa0, .ref qa1, .int 0, .int 0, .int 0, .ref qa5, .ref qa6, .ref qa7, .int 0, .int 0, .int 0, .int 0, .ref qa12, .null, .int 0, .int 0, .null])), (qa0, .inl (ca0, 12, .inl (fun _ => 0))), (qa1, .inl (ca1, 24, .inl (fun _ => 0))), (qa5, .inl (ca5, 12, .inl (fun _ => 0))), (qa6, .inl (ca6, 12, .inl (fun _ => 0))), (qa7, .inl (ca7, 24, .inl (fun _ => 0))), (qa12, .inl (ca12, 12, .inl (fun _ => 0)))] H := hP
  have hD : va_D A [(h0, .inr (0, [.ref qa0, .ref qa1, .int 0, .int 0, .int 0, .ref qa5, .ref qa6, .ref qa7, .int 0, .int 0, .int 0, .int 0, .ref qa12, .null, .int 0, .int 0, .null])), (qa0, .inl (ca0, 12, .inl (fun _ => 0))), (qa1, .inl (ca1, 24, .inl (fun _ => 0))), (qa5, .inl (ca5, 12, .inl (fun _ => 0))), (qa6, .inl (ca6, 12, .inl (fun _ => 0))), (qa7, .inl (ca7, 24, .inl (fun _ => 0))), (qa12, .inl (ca12, 12, .inl (fun _ => 0)))] := hD
  refine lv_aload_n hx hb dX0_init_52 rfl (lv_at hl 0 rfl) ?_
  refine lv_bipush (v := 24) hx hb dX0_init_53 (by decide) ?_
  refine va_newa (atype := .byte) (a0 := (24, .inl (fun _ => 0))) (N' := 24) (ty := .byte) hx hb (hts _ q89) rfl hK hP hD hS hA (fun _ => rfl) (by decide) (by decide) (by decide) (Nat.le_of_ble_eq_true rfl) (Nat.le_of_ble_eq_true rfl) dX0_init_55 (fun qa13 ca13 H hK hP hD hS => ?_)
  have hP : va_P (dC, dI) vwCl [(h0, .inr (0, [.ref qa0, .ref qa1, .int 0, .int 0, .int 0, .ref qa5, .ref qa6, .ref qa7, .int 0, .int 0, .int 0, .int 0, .ref qa12, .null, .int 0, .int 0, .null])), (qa0, .inl (ca0, 12, .inl (fun _ => 0))), (qa1, .inl (ca1, 24, .inl (fun _ => 0))), (qa5, .inl (ca5, 12, .inl (fun _ => 0))), (qa6, .inl (ca6, 12, .inl (fun _ => 0))), (qa7, .inl (ca7, 24, .inl (fun _ => 0))), (qa12, .inl (ca12, 12, .inl (fun _ => 0))), (qa13, .inl (ca13, 24, .inl (fun _ => 0)))] H := hP
  have hD : va_D A [(h0, .inr (0, [.ref qa0, .ref qa1, .int 0, .int 0, .int 0, .ref qa5, .ref qa6, .ref qa7, .int 0, .int 0, .int 0, .int 0, .ref qa12, .null, .int 0, .int 0, .null])), (qa0, .inl (ca0, 12, .inl (fun _ => 0))), (qa1, .inl (ca1, 24, .inl (fun _ => 0))), (qa5, .inl (ca5, 12, .inl (fun _ => 0))), (qa6, .inl (ca6, 12, .inl (fun _ => 0))), (qa7, .inl (ca7, 24, .inl (fun _ => 0))), (qa12, .inl (ca12, 12, .inl (fun _ => 0))), (qa13, .inl (ca13, 24, .inl (fun _ => 0)))] := hD
  refine W.widen (k := 7) (n := 120) (Nat.le_refl _) (Nat.le_refl _) ?_
  refine va_putF (D := (dC, dI)) (ci := 0) (v := .ref qa13) (ty := .array .byte) (C := RX0) (T := TX0) (N := 17) hx hb hts in_X0 tyX0 tyX0_ok nmX0 hown hK hP hD hS 0 rfl rfl 13 (by decide) (hts _ q49) (fun _ h9 => h9) rfl hin rfl (by decide +kernel) rfl rfl (Nat.le_of_ble_eq_true rfl) dX0_init_57 (fun H locs hP hD hS => ?_)
  have hP : va_P (dC, dI) vwCl [(h0, .inr (0, [.ref qa0, .ref qa1, .int 0, .int 0, .int 0, .ref qa5, .ref qa6, .ref qa7, .int 0, .int 0, .int 0, .int 0, .ref qa12, .ref qa13, .int 0, .int 0, .null])), (qa0, .inl (ca0, 12, .inl (fun _ => 0))), (qa1, .inl (ca1, 24, .inl (fun _ => 0))), (qa5, .inl (ca5, 12, .inl (fun _ => 0))), (qa6, .inl (ca6, 12, .inl (fun _ => 0))), (qa7, .inl (ca7, 24, .inl (fun _ => 0))), (qa12, .inl (ca12, 12, .inl (fun _ => 0))), (qa13, .inl (ca13, 24, .inl (fun _ => 0)))] H := hP
  have hD : va_D A [(h0, .inr (0, [.ref qa0, .ref qa1, .int 0, .int 0, .int 0, .ref qa5, .ref qa6, .ref qa7, .int 0, .int 0, .int 0, .int 0, .ref qa12, .ref qa13, .int 0, .int 0, .null])), (qa0, .inl (ca0, 12, .inl (fun _ => 0))), (qa1, .inl (ca1, 24, .inl (fun _ => 0))), (qa5, .inl (ca5, 12, .inl (fun _ => 0))), (qa6, .inl (ca6, 12, .inl (fun _ => 0))), (qa7, .inl (ca7, 24, .inl (fun _ => 0))), (qa12, .inl (ca12, 12, .inl (fun _ => 0))), (qa13, .inl (ca13, 24, .inl (fun _ => 0)))] := hD
  refine lv_aload_n hx hb dX0_init_60 rfl (lv_at hl 0 rfl) ?_
  refine lv_iconst (v := 4) hx hb dX0_init_61 (by decide) ?_
  refine va_newa (atype := .byte) (a0 := (4, .inl (fun _ => 0))) (N' := 4) (ty := .byte) hx hb (hts _ q89) rfl hK hP hD hS hA (fun _ => rfl) (by decide) (by decide) (by decide) (Nat.le_of_ble_eq_true rfl) (Nat.le_of_ble_eq_true rfl) dX0_init_62 (fun qa16 ca16 H hK hP hD hS => ?_)
  have hP : va_P (dC, dI) vwCl [(h0, .inr (0, [.ref qa0, .ref qa1, .int 0, .int 0, .int 0, .ref qa5, .ref qa6, .ref qa7, .int 0, .int 0, .int 0, .int 0, .ref qa12, .ref qa13, .int 0, .int 0, .null])), (qa0, .inl (ca0, 12, .inl (fun _ => 0))), (qa1, .inl (ca1, 24, .inl (fun _ => 0))), (qa5, .inl (ca5, 12, .inl (fun _ => 0))), (qa6, .inl (ca6, 12, .inl (fun _ => 0))), (qa7, .inl (ca7, 24, .inl (fun _ => 0))), (qa12, .inl (ca12, 12, .inl (fun _ => 0))), (qa13, .inl (ca13, 24, .inl (fun _ => 0))), (qa16, .inl (ca16, 4, .inl (fun _ => 0)))] H := hP
  have hD : va_D A [(h0, .inr (0, [.ref qa0, .ref qa1, .int 0, .int 0, .int 0, .ref qa5, .ref qa6, .ref qa7, .int 0, .int 0, .int 0, .int 0, .ref qa12, .ref qa13, .int 0, .int 0, .null])), (qa0, .inl (ca0, 12, .inl (fun _ => 0))), (qa1, .inl (ca1, 24, .inl (fun _ => 0))), (qa5, .inl (ca5, 12, .inl (fun _ => 0))), (qa6, .inl (ca6, 12, .inl (fun _ => 0))), (qa7, .inl (ca7, 24, .inl (fun _ => 0))), (qa12, .inl (ca12, 12, .inl (fun _ => 0))), (qa13, .inl (ca13, 24, .inl (fun _ => 0))), (qa16, .inl (ca16, 4, .inl (fun _ => 0)))] := hD
  refine W.widen (k := 8) (n := 124) (Nat.le_refl _) (Nat.le_refl _) ?_
  refine va_putF (D := (dC, dI)) (ci := 0) (v := .ref qa16) (ty := .array .byte) (C := RX0) (T := TX0) (N := 17) hx hb hts in_X0 tyX0 tyX0_ok nmX0 hown hK hP hD hS 0 rfl rfl 16 (by decide) (hts _ q52) (fun _ h9 => h9) rfl hin rfl (by decide +kernel) rfl rfl (Nat.le_of_ble_eq_true rfl) dX0_init_64 (fun H locs hP hD hS => ?_)
  have hP : va_P (dC, dI) vwCl [(h0, .inr (0, [.ref qa0, .ref qa1, .int 0, .int 0, .int 0, .ref qa5, .ref qa6, .ref qa7, .int 0, .int 0, .int 0, .int 0, .ref qa12, .ref qa13, .int 0, .int 0, .ref qa16])), (qa0, .inl (ca0, 12, .inl (fun _ => 0))), (qa1, .inl (ca1, 24, .inl (fun _ => 0))), (qa5, .inl (ca5, 12, .inl (fun _ => 0))), (qa6, .inl (ca6, 12, .inl (fun _ => 0))), (qa7, .inl (ca7, 24, .inl (fun _ => 0))), (qa12, .inl (ca12, 12, .inl (fun _ => 0))), (qa13, .inl (ca13, 24, .inl (fun _ => 0))), (qa16, .inl (ca16, 4, .inl (fun _ => 0)))] H := hP
  have hD : va_D A [(h0, .inr (0, [.ref qa0, .ref qa1, .int 0, .int 0, .int 0, .ref qa5, .ref qa6, .ref qa7, .int 0, .int 0, .int 0, .int 0, .ref qa12, .ref qa13, .int 0, .int 0, .ref qa16])), (qa0, .inl (ca0, 12, .inl (fun _ => 0))), (qa1, .inl (ca1, 24, .inl (fun _ => 0))), (qa5, .inl (ca5, 12, .inl (fun _ => 0))), (qa6, .inl (ca6, 12, .inl (fun _ => 0))), (qa7, .inl (ca7, 24, .inl (fun _ => 0))), (qa12, .inl (ca12, 12, .inl (fun _ => 0))), (qa13, .inl (ca13, 24, .inl (fun _ => 0))), (qa16, .inl (ca16, 4, .inl (fun _ => 0)))] := hD
  refine lv_aload_n hx hb dX0_init_67 rfl (lv_at hl 0 rfl) ?_
  refine lv_iconst (v := (-1)) hx hb dX0_init_68 (by decide) ?_
  refine va_put (D := (dC, dI)) (ci := 0) (v := .int (-1)) (ty := .int) (C := RX0) (T := TX0) (N := 17) hx hb hts in_X0 tyX0 tyX0_ok nmX0 hown hK hP hD hS 0 rfl rfl 2 (by decide) (hts _ q38) (fun _ h9 => h9) rfl (by decide +kernel) rfl rfl (Nat.le_of_ble_eq_true rfl) dX0_init_69 (fun H locs hP hD hS => ?_)
  have hP : va_P (dC, dI) vwCl [(h0, .inr (0, [.ref qa0, .ref qa1, .int (-1), .int 0, .int 0, .ref qa5, .ref qa6, .ref qa7, .int 0, .int 0, .int 0, .int 0, .ref qa12, .ref qa13, .int 0, .int 0, .ref qa16])), (qa0, .inl (ca0, 12, .inl (fun _ => 0))), (qa1, .inl (ca1, 24, .inl (fun _ => 0))), (qa5, .inl (ca5, 12, .inl (fun _ => 0))), (qa6, .inl (ca6, 12, .inl (fun _ => 0))), (qa7, .inl (ca7, 24, .inl (fun _ => 0))), (qa12, .inl (ca12, 12, .inl (fun _ => 0))), (qa13, .inl (ca13, 24, .inl (fun _ => 0))), (qa16, .inl (ca16, 4, .inl (fun _ => 0)))] H := hP
  have hD : va_D A [(h0, .inr (0, [.ref qa0, .ref qa1, .int (-1), .int 0, .int 0, .ref qa5, .ref qa6, .ref qa7, .int 0, .int 0, .int 0, .int 0, .ref qa12, .ref qa13, .int 0, .int 0, .ref qa16])), (qa0, .inl (ca0, 12, .inl (fun _ => 0))), (qa1, .inl (ca1, 24, .inl (fun _ => 0))), (qa5, .inl (ca5, 12, .inl (fun _ => 0))), (qa6, .inl (ca6, 12, .inl (fun _ => 0))), (qa7, .inl (ca7, 24, .inl (fun _ => 0))), (qa12, .inl (ca12, 12, .inl (fun _ => 0))), (qa13, .inl (ca13, 24, .inl (fun _ => 0))), (qa16, .inl (ca16, 4, .inl (fun _ => 0)))] := hD
  refine lv_aload_n hx hb dX0_init_72 rfl (lv_at hl 0 rfl) ?_
  refine lv_iconst (v := (-1)) hx hb dX0_init_73 (by decide) ?_
  refine va_put (D := (dC, dI)) (ci := 0) (v := .int (-1)) (ty := .int) (C := RX0) (T := TX0) (N := 17) hx hb hts in_X0 tyX0 tyX0_ok nmX0 hown hK hP hD hS 0 rfl rfl 15 (by decide) (hts _ q51) (fun _ h9 => h9) rfl (by decide +kernel) rfl rfl (Nat.le_of_ble_eq_true rfl) dX0_init_74 (fun H locs hP hD hS => ?_)
  have hP : va_P (dC, dI) vwCl [(h0, .inr (0, [.ref qa0, .ref qa1, .int (-1), .int 0, .int 0, .ref qa5, .ref qa6, .ref qa7, .int 0, .int 0, .int 0, .int 0, .ref qa12, .ref qa13, .int 0, .int (-1), .ref qa16])), (qa0, .inl (ca0, 12, .inl (fun _ => 0))), (qa1, .inl (ca1, 24, .inl (fun _ => 0))), (qa5, .inl (ca5, 12, .inl (fun _ => 0))), (qa6, .inl (ca6, 12, .inl (fun _ => 0))), (qa7, .inl (ca7, 24, .inl (fun _ => 0))), (qa12, .inl (ca12, 12, .inl (fun _ => 0))), (qa13, .inl (ca13, 24, .inl (fun _ => 0))), (qa16, .inl (ca16, 4, .inl (fun _ => 0)))] H := hP
  have hD : va_D A [(h0, .inr (0, [.ref qa0, .ref qa1, .int (-1), .int 0, .int 0, .ref qa5, .ref qa6, .ref qa7, .int 0, .int 0, .int 0, .int 0, .ref qa12, .ref qa13, .int 0, .int (-1), .ref qa16])), (qa0, .inl (ca0, 12, .inl (fun _ => 0))), (qa1, .inl (ca1, 24, .inl (fun _ => 0))), (qa5, .inl (ca5, 12, .inl (fun _ => 0))), (qa6, .inl (ca6, 12, .inl (fun _ => 0))), (qa7, .inl (ca7, 24, .inl (fun _ => 0))), (qa12, .inl (ca12, 12, .inl (fun _ => 0))), (qa13, .inl (ca13, 24, .inl (fun _ => 0))), (qa16, .inl (ca16, 4, .inl (fun _ => 0)))] := hD
  refine lv_iconst (v := 0) hx hb dX0_init_77 (by decide) ?_
  refine lv_istore_n (lv' := [(1, .int 0), (0, .ref h0)]) hx hb dX0_init_78 rfl hl (by decide) rfl (fun ls hl => ?_)
  obtain ⟨b, eb⟩ : ∃ b : Nat → Nat, b = (fun k => match k with | 0 => qa0 | 1 => qa1 | 5 => qa5 | 6 => qa6 | 7 => qa7 | 12 => qa12 | 13 => qa13 | _ => qa16) := ⟨_, rfl⟩
  obtain ⟨cA, ec⟩ : ∃ cA : Nat → ClassId, cA = (fun k => match k with | 0 => ca0 | 1 => ca1 | 5 => ca5 | 6 => ca6 | 7 => ca7 | 12 => ca12 | 13 => ca13 | _ => ca16) := ⟨_, rfl⟩
  have hP : va_P (dC, dI) vwCl (wX h0 b cA (setF (setF x_zero 2 (-1)) 15 (-1))) H := by rw [eb, ec]; exact hP
  have hD : va_D A (wX h0 b cA (setF (setF x_zero 2 (-1)) 15 (-1))) := by rw [eb, ec]; exact hD
  have hK : va_K (dC, dI) vwCl (tX cA) s := by rw [ec]; exact hK
  refine lpX0_init_79 hx hb hml hown hts hA hK 4 0 (setF (setF x_zero 2 (-1)) 15 (-1)) rfl _ _ hP hD hS ls (lv_sub hl [1, 0] rfl) (fun H locs hP hD hS ls hl => ?_)
  exact W.vret hx hb hr (fun t ht hW => ⟨⟨(b, cA, (rsL 16 4 0 (setF (setF x_zero 2 (-1)) 15 (-1)))), rfl, rfl, by rw [ht]; exact hP, va_K.moved hW.alike hK, hD⟩, hS.F ht⟩) hS.2.2 dX0_init_97

set_option maxHeartbeats 8000000 in
theorem metX1_init (l : Launch) (dC : Nat → ClassId) (dI : Nat → Nat → Nat) (h0 : Nat) (sz : Nat) : Met l yX1_init (ws_ yX1_init cX1_init 1 none) ({ frames := 1, cells := 5, slots := 76, locals := 21 }) (va_Pc [.ref h0] (fun U => U.heap.size = sz ∧ va_P (dC, dI) vwCl [(h0, .inr (1, [.null, .null, .int 0, .null, .null, .null, .int 0]))] U.heap ∧ va_K (dC, dI) vwCl [] U ∧ va_D (fun _ => True) [(h0, .inr (1, [.null, .null, .int 0, .null, .null, .null, .int 0]))])) (va_Qv (fun u : (Nat → Nat) × (Nat → ClassId) × XS => u.2.2 = m_init) (fun u t => cBW (dC, dI) (tM u.2.1) (wM h0 u.1 u.2.1) (va_A [(h0, .inr (1, [.null, .null, .int 0, .null, .null, .null, .int 0]))] sz) u.2.2 t) (va_A [(h0, .inr (1, [.null, .null, .int 0, .null, .null, .null, .int 0]))] sz)) 5 76 (va_A [(h0, .inr (1, [.null, .null, .int 0, .null, .null, .null, .int 0]))] sz) := by
  refine Met.ofW (cc := cX1_init) (maxL := 1) (ret := none) (by decide) rfl ?_
  intro p e s m args below meth c s₁ B hml hv
  obtain ⟨rfl, hsz, hP, hK, hD0⟩ := hv
  have hx := B.exec
  have hb := B.bytes
  have hr := B.returns
  have hts := atoms_spec (ws := (ws_ yX1_init cX1_init 1 none)) B.pre
  have hts : ∀ w ∈ lw_all, w.before _ s = true := fun w h => hts w (List.mem_cons_of_mem _ h)
  have hown : s.vm.findClass RX1 = some m.cls := findClass_of_methodNamed B.named
  have hlocks := B.notSynchronized
  have hin : meth.name = "<init>" := (name_of_methodNamed B.named B.method).1
  subst hsz
  have hD := hD0.self (sz := s.heap.size)
  generalize hAe : va_A [(h0, .inr (1, [.null, .null, .int 0, .null, .null, .null, .int 0]))] s.heap.size = A at hD ⊢
  have hA : ∀ q : Nat, s.heap.size ≤ q → A q := fun q h => by rw [← hAe]; exact Or.inr h
  have hS : va_S A s.heap s.heap [] := va_S.rf
  have hP : va_P (dC, dI) vwCl [(h0, .inr (1, [.null, .null, .int 0, .null, .null, .null, .int 0]))] s.heap := hP
  have hl := lv_entry ([.ref h0]) (n := 1) (Nat.le_of_ble_eq_true rfl)
  rw [lg_entry_eq]
  generalize (lg_sl ([.ref h0]) ++ List.replicate (1 - (lg_sl ([.ref h0])).length) Slot.unset).toArray = ls at hl ⊢
  have hl : lv_has ls 1 [(0, .ref h0)] := hl
  refine lv_aload_n hx hb dX1_init_0 rfl (lv_at hl 0 rfl) ?_
  refine W.objInit hx hb hown (hts _ q203) (hts _ q34) (hts _ q35) rfl (by rw [hml]; exact hl.1) rfl dX1_init_1 (Nat.le_of_ble_eq_true rfl) (Nat.le_of_ble_eq_true rfl) ?_
  refine W.eq (g2 := F0 m 4 ls []) rfl ?_
  refine lv_aload_n hx hb dX1_init_4 rfl (lv_at hl 0 rfl) ?_
  refine lv_bipush (v := 12) hx hb dX1_init_5 (by decide) ?_
  refine va_newa (atype := .int) (a0 := (12, .inl (fun _ => 0))) (N' := 12) (ty := .int) hx hb (hts _ q88) rfl hK hP hD hS hA (fun _ => rfl) (by decide) (by decide) (by decide) (Nat.le_of_ble_eq_true rfl) (Nat.le_of_ble_eq_true rfl) dX1_init_7 (fun qa0 ca0 H hK hP hD hS => ?_)
  have hP : va_P (dC, dI) vwCl [(h0, .inr (1, [.null, .null, .int 0, .null, .null, .null, .int 0])), (qa0, .inl (ca0, 12, .inl (fun _ => 0)))] H := hP
  have hD : va_D A [(h0, .inr (1, [.null, .null, .int 0, .null, .null, .null, .int 0])), (qa0, .inl (ca0, 12, .inl (fun _ => 0)))] := hD
  refine W.widen (k := 1) (n := 12) (Nat.le_refl _) (Nat.le_refl _) ?_
  refine va_put (D := (dC, dI)) (ci := 1) (v := .ref qa0) (ty := .array .int) (C := RX1) (T := TX1) (N := 7) hx hb hts in_X1 tyX1 tyX1_ok nmX1 hown hK hP hD hS 0 rfl rfl 0 (by decide) (hts _ q208) (fun _ h9 => h9) rfl (by decide +kernel) rfl rfl (Nat.le_of_ble_eq_true rfl) dX1_init_9 (fun H locs hP hD hS => ?_)
  have hP : va_P (dC, dI) vwCl [(h0, .inr (1, [.ref qa0, .null, .int 0, .null, .null, .null, .int 0])), (qa0, .inl (ca0, 12, .inl (fun _ => 0)))] H := hP
  have hD : va_D A [(h0, .inr (1, [.ref qa0, .null, .int 0, .null, .null, .null, .int 0])), (qa0, .inl (ca0, 12, .inl (fun _ => 0)))] := hD
  refine lv_aload_n hx hb dX1_init_12 rfl (lv_at hl 0 rfl) ?_
  refine lv_bipush (v := 24) hx hb dX1_init_13 (by decide) ?_
  refine va_newa (atype := .int) (a0 := (24, .inl (fun _ => 0))) (N' := 24) (ty := .int) hx hb (hts _ q88) rfl hK hP hD hS hA (fun _ => rfl) (by decide) (by decide) (by decide) (Nat.le_of_ble_eq_true rfl) (Nat.le_of_ble_eq_true rfl) dX1_init_15 (fun qa1 ca1 H hK hP hD hS => ?_)
  have hP : va_P (dC, dI) vwCl [(h0, .inr (1, [.ref qa0, .null, .int 0, .null, .null, .null, .int 0])), (qa0, .inl (ca0, 12, .inl (fun _ => 0))), (qa1, .inl (ca1, 24, .inl (fun _ => 0)))] H := hP
  have hD : va_D A [(h0, .inr (1, [.ref qa0, .null, .int 0, .null, .null, .null, .int 0])), (qa0, .inl (ca0, 12, .inl (fun _ => 0))), (qa1, .inl (ca1, 24, .inl (fun _ => 0)))] := hD
  refine W.widen (k := 2) (n := 36) (Nat.le_refl _) (Nat.le_refl _) ?_
  refine va_put (D := (dC, dI)) (ci := 1) (v := .ref qa1) (ty := .array .int) (C := RX1) (T := TX1) (N := 7) hx hb hts in_X1 tyX1 tyX1_ok nmX1 hown hK hP hD hS 0 rfl rfl 1 (by decide) (hts _ q209) (fun _ h9 => h9) rfl (by decide +kernel) rfl rfl (Nat.le_of_ble_eq_true rfl) dX1_init_17 (fun H locs hP hD hS => ?_)
  have hP : va_P (dC, dI) vwCl [(h0, .inr (1, [.ref qa0, .ref qa1, .int 0, .null, .null, .null, .int 0])), (qa0, .inl (ca0, 12, .inl (fun _ => 0))), (qa1, .inl (ca1, 24, .inl (fun _ => 0)))] H := hP
  have hD : va_D A [(h0, .inr (1, [.ref qa0, .ref qa1, .int 0, .null, .null, .null, .int 0])), (qa0, .inl (ca0, 12, .inl (fun _ => 0))), (qa1, .inl (ca1, 24, .inl (fun _ => 0)))] := hD
  refine lv_aload_n hx hb dX1_init_20 rfl (lv_at hl 0 rfl) ?_
  refine lv_iconst (v := (-1)) hx hb dX1_init_21 (by decide) ?_
  refine va_put (D := (dC, dI)) (ci := 1) (v := .int (-1)) (ty := .int) (C := RX1) (T := TX1) (N := 7) hx hb hts in_X1 tyX1 tyX1_ok nmX1 hown hK hP hD hS 0 rfl rfl 2 (by decide) (hts _ q210) (fun _ h9 => h9) rfl (by decide +kernel) rfl rfl (Nat.le_of_ble_eq_true rfl) dX1_init_22 (fun H locs hP hD hS => ?_)
  have hP : va_P (dC, dI) vwCl [(h0, .inr (1, [.ref qa0, .ref qa1, .int (-1), .null, .null, .null, .int 0])), (qa0, .inl (ca0, 12, .inl (fun _ => 0))), (qa1, .inl (ca1, 24, .inl (fun _ => 0)))] H := hP
  have hD : va_D A [(h0, .inr (1, [.ref qa0, .ref qa1, .int (-1), .null, .null, .null, .int 0])), (qa0, .inl (ca0, 12, .inl (fun _ => 0))), (qa1, .inl (ca1, 24, .inl (fun _ => 0)))] := hD
  refine lv_aload_n hx hb dX1_init_25 rfl (lv_at hl 0 rfl) ?_
  refine lv_iconst (v := 4) hx hb dX1_init_26 (by decide) ?_
  refine va_newa (atype := .int) (a0 := (4, .inl (fun _ => 0))) (N' := 4) (ty := .int) hx hb (hts _ q88) rfl hK hP hD hS hA (fun _ => rfl) (by decide) (by decide) (by decide) (Nat.le_of_ble_eq_true rfl) (Nat.le_of_ble_eq_true rfl) dX1_init_27 (fun qa3 ca3 H hK hP hD hS => ?_)
  have hP : va_P (dC, dI) vwCl [(h0, .inr (1, [.ref qa0, .ref qa1, .int (-1), .null, .null, .null, .int 0])), (qa0, .inl (ca0, 12, .inl (fun _ => 0))), (qa1, .inl (ca1, 24, .inl (fun _ => 0))), (qa3, .inl (ca3, 4, .inl (fun _ => 0)))] H := hP
  have hD : va_D A [(h0, .inr (1, [.ref qa0, .ref qa1, .int (-1), .null, .null, .null, .int 0])), (qa0, .inl (ca0, 12, .inl (fun _ => 0))), (qa1, .inl (ca1, 24, .inl (fun _ => 0))), (qa3, .inl (ca3, 4, .inl (fun _ => 0)))] := hD
  refine W.widen (k := 3) (n := 40) (Nat.le_refl _) (Nat.le_refl _) ?_
  refine va_put (D := (dC, dI)) (ci := 1) (v := .ref qa3) (ty := .array .int) (C := RX1) (T := TX1) (N := 7) hx hb hts in_X1 tyX1 tyX1_ok nmX1 hown hK hP hD hS 0 rfl rfl 3 (by decide) (hts _ q211) (fun _ h9 => h9) rfl (by decide +kernel) rfl rfl (Nat.le_of_ble_eq_true rfl) dX1_init_29 (fun H locs hP hD hS => ?_)
  have hP : va_P (dC, dI) vwCl [(h0, .inr (1, [.ref qa0, .ref qa1, .int (-1), .ref qa3, .null, .null, .int 0])), (qa0, .inl (ca0, 12, .inl (fun _ => 0))), (qa1, .inl (ca1, 24, .inl (fun _ => 0))), (qa3, .inl (ca3, 4, .inl (fun _ => 0)))] H := hP
  have hD : va_D A [(h0, .inr (1, [.ref qa0, .ref qa1, .int (-1), .ref qa3, .null, .null, .int 0])), (qa0, .inl (ca0, 12, .inl (fun _ => 0))), (qa1, .inl (ca1, 24, .inl (fun _ => 0))), (qa3, .inl (ca3, 4, .inl (fun _ => 0)))] := hD
  refine lv_aload_n hx hb dX1_init_32 rfl (lv_at hl 0 rfl) ?_
  refine lv_bipush (v := 12) hx hb dX1_init_33 (by decide) ?_
  refine va_newa (atype := .int) (a0 := (12, .inl (fun _ => 0))) (N' := 12) (ty := .int) hx hb (hts _ q88) rfl hK hP hD hS hA (fun _ => rfl) (by decide) (by decide) (by decide) (Nat.le_of_ble_eq_true rfl) (Nat.le_of_ble_eq_true rfl) dX1_init_35 (fun qa4 ca4 H hK hP hD hS => ?_)
  have hP : va_P (dC, dI) vwCl [(h0, .inr (1, [.ref qa0, .ref qa1, .int (-1), .ref qa3, .null, .null, .int 0])), (qa0, .inl (ca0, 12, .inl (fun _ => 0))), (qa1, .inl (ca1, 24, .inl (fun _ => 0))), (qa3, .inl (ca3, 4, .inl (fun _ => 0))), (qa4, .inl (ca4, 12, .inl (fun _ => 0)))] H := hP
  have hD : va_D A [(h0, .inr (1, [.ref qa0, .ref qa1, .int (-1), .ref qa3, .null, .null, .int 0])), (qa0, .inl (ca0, 12, .inl (fun _ => 0))), (qa1, .inl (ca1, 24, .inl (fun _ => 0))), (qa3, .inl (ca3, 4, .inl (fun _ => 0))), (qa4, .inl (ca4, 12, .inl (fun _ => 0)))] := hD
  refine W.widen (k := 4) (n := 52) (Nat.le_refl _) (Nat.le_refl _) ?_
  refine va_put (D := (dC, dI)) (ci := 1) (v := .ref qa4) (ty := .array .int) (C := RX1) (T := TX1) (N := 7) hx hb hts in_X1 tyX1 tyX1_ok nmX1 hown hK hP hD hS 0 rfl rfl 4 (by decide) (hts _ q212) (fun _ h9 => h9) rfl (by decide +kernel) rfl rfl (Nat.le_of_ble_eq_true rfl) dX1_init_37 (fun H locs hP hD hS => ?_)
  have hP : va_P (dC, dI) vwCl [(h0, .inr (1, [.ref qa0, .ref qa1, .int (-1), .ref qa3, .ref qa4, .null, .int 0])), (qa0, .inl (ca0, 12, .inl (fun _ => 0))), (qa1, .inl (ca1, 24, .inl (fun _ => 0))), (qa3, .inl (ca3, 4, .inl (fun _ => 0))), (qa4, .inl (ca4, 12, .inl (fun _ => 0)))] H := hP
  have hD : va_D A [(h0, .inr (1, [.ref qa0, .ref qa1, .int (-1), .ref qa3, .ref qa4, .null, .int 0])), (qa0, .inl (ca0, 12, .inl (fun _ => 0))), (qa1, .inl (ca1, 24, .inl (fun _ => 0))), (qa3, .inl (ca3, 4, .inl (fun _ => 0))), (qa4, .inl (ca4, 12, .inl (fun _ => 0)))] := hD
  refine lv_aload_n hx hb dX1_init_40 rfl (lv_at hl 0 rfl) ?_
  refine lv_bipush (v := 24) hx hb dX1_init_41 (by decide) ?_
  refine va_newa (atype := .int) (a0 := (24, .inl (fun _ => 0))) (N' := 24) (ty := .int) hx hb (hts _ q88) rfl hK hP hD hS hA (fun _ => rfl) (by decide) (by decide) (by decide) (Nat.le_of_ble_eq_true rfl) (Nat.le_of_ble_eq_true rfl) dX1_init_43 (fun qa5 ca5 H hK hP hD hS => ?_)
  have hP : va_P (dC, dI) vwCl [(h0, .inr (1, [.ref qa0, .ref qa1, .int (-1), .ref qa3, .ref qa4, .null, .int 0])), (qa0, .inl (ca0, 12, .inl (fun _ => 0))), (qa1, .inl (ca1, 24, .inl (fun _ => 0))), (qa3, .inl (ca3, 4, .inl (fun _ => 0))), (qa4, .inl (ca4, 12, .inl (fun _ => 0))), (qa5, .inl (ca5, 24, .inl (fun _ => 0)))] H := hP
  have hD : va_D A [(h0, .inr (1, [.ref qa0, .ref qa1, .int (-1), .ref qa3, .ref qa4, .null, .int 0])), (qa0, .inl (ca0, 12, .inl (fun _ => 0))), (qa1, .inl (ca1, 24, .inl (fun _ => 0))), (qa3, .inl (ca3, 4, .inl (fun _ => 0))), (qa4, .inl (ca4, 12, .inl (fun _ => 0))), (qa5, .inl (ca5, 24, .inl (fun _ => 0)))] := hD
  refine W.widen (k := 5) (n := 76) (Nat.le_refl _) (Nat.le_refl _) ?_
  refine va_put (D := (dC, dI)) (ci := 1) (v := .ref qa5) (ty := .array .int) (C := RX1) (T := TX1) (N := 7) hx hb hts in_X1 tyX1 tyX1_ok nmX1 hown hK hP hD hS 0 rfl rfl 5 (by decide) (hts _ q213) (fun _ h9 => h9) rfl (by decide +kernel) rfl rfl (Nat.le_of_ble_eq_true rfl) dX1_init_45 (fun H locs hP hD hS => ?_)
  have hP : va_P (dC, dI) vwCl [(h0, .inr (1, [.ref qa0, .ref qa1, .int (-1), .ref qa3, .ref qa4, .ref qa5, .int 0])), (qa0, .inl (ca0, 12, .inl (fun _ => 0))), (qa1, .inl (ca1, 24, .inl (fun _ => 0))), (qa3, .inl (ca3, 4, .inl (fun _ => 0))), (qa4, .inl (ca4, 12, .inl (fun _ => 0))), (qa5, .inl (ca5, 24, .inl (fun _ => 0)))] H := hP
  have hD : va_D A [(h0, .inr (1, [.ref qa0, .ref qa1, .int (-1), .ref qa3, .ref qa4, .ref qa5, .int 0])), (qa0, .inl (ca0, 12, .inl (fun _ => 0))), (qa1, .inl (ca1, 24, .inl (fun _ => 0))), (qa3, .inl (ca3, 4, .inl (fun _ => 0))), (qa4, .inl (ca4, 12, .inl (fun _ => 0))), (qa5, .inl (ca5, 24, .inl (fun _ => 0)))] := hD
  refine lv_aload_n hx hb dX1_init_48 rfl (lv_at hl 0 rfl) ?_
  refine lv_iconst (v := (-1)) hx hb dX1_init_49 (by decide) ?_
  refine va_put (D := (dC, dI)) (ci := 1) (v := .int (-1)) (ty := .int) (C := RX1) (T := TX1) (N := 7) hx hb hts in_X1 tyX1 tyX1_ok nmX1 hown hK hP hD hS 0 rfl rfl 6 (by decide) (hts _ q214) (fun _ h9 => h9) rfl (by decide +kernel) rfl rfl (Nat.le_of_ble_eq_true rfl) dX1_init_50 (fun H locs hP hD hS => ?_)
  have hP : va_P (dC, dI) vwCl [(h0, .inr (1, [.ref qa0, .ref qa1, .int (-1), .ref qa3, .ref qa4, .ref qa5, .int (-1)])), (qa0, .inl (ca0, 12, .inl (fun _ => 0))), (qa1, .inl (ca1, 24, .inl (fun _ => 0))), (qa3, .inl (ca3, 4, .inl (fun _ => 0))), (qa4, .inl (ca4, 12, .inl (fun _ => 0))), (qa5, .inl (ca5, 24, .inl (fun _ => 0)))] H := hP
  have hD : va_D A [(h0, .inr (1, [.ref qa0, .ref qa1, .int (-1), .ref qa3, .ref qa4, .ref qa5, .int (-1)])), (qa0, .inl (ca0, 12, .inl (fun _ => 0))), (qa1, .inl (ca1, 24, .inl (fun _ => 0))), (qa3, .inl (ca3, 4, .inl (fun _ => 0))), (qa4, .inl (ca4, 12, .inl (fun _ => 0))), (qa5, .inl (ca5, 24, .inl (fun _ => 0)))] := hD
  refine lv_aload_n hx hb dX1_init_53 rfl (lv_at hl 0 rfl) ?_
  obtain ⟨b, eb⟩ : ∃ b : Nat → Nat, b = (fun k => match k with | 0 => qa0 | 1 => qa1 | 3 => qa3 | 4 => qa4 | _ => qa5) := ⟨_, rfl⟩
  obtain ⟨cA, ec⟩ : ∃ cA : Nat → ClassId, cA = (fun k => match k with | 0 => ca0 | 1 => ca1 | 3 => ca3 | 4 => ca4 | _ => ca5) := ⟨_, rfl⟩
  have hP : va_P (dC, dI) vwCl (wM h0 b cA (setF (setF x_zero 2 (-1)) 6 (-1))) H := by rw [eb, ec]; exact hP
  have hD : va_D A (wM h0 b cA (setF (setF x_zero 2 (-1)) 6 (-1))) := by rw [eb, ec]; exact hD
  have hK : va_K (dC, dI) vwCl (tM cA) s := by rw [ec]; exact hK
  refine ca_v (D := (dC, dI)) (wf := wM h0 b cA) hx hb hml hown hts (metX1_forget l dC dI h0 b cA _ (setF (setF x_zero 2 (-1)) 6 (-1))) (cwV 0 hts (lw_V q204 q206 qs14 q27 q207) rfl rfl rfl (by decide +kernel) ⟨Nat.le_of_ble_eq_true rfl, Nat.le_of_ble_eq_true rfl⟩) hK hP hD hS hA 0 1 rfl rfl rfl hl.1 rfl (lv_room (Nat.le_of_ble_eq_true rfl)) dX1_init_54 ⟨Nat.le_of_ble_eq_true rfl, Nat.le_of_ble_eq_true rfl⟩ (fun H locs hP hD hS => ?_)
  exact W.vret hx hb hr (fun t ht hW => ⟨⟨(b, cA, (rsL 3 4 0 (setF (setF x_zero 2 (-1)) 6 (-1)))), rfl, rfl, by rw [ht]; exact hP, va_K.moved hW.alike hK, hD⟩, hS.F ht⟩) hS.2.2 dX1_init_57
end
section
set_option maxRecDepth 100000
/-! rows of the kit's laws (BITS, COUNTS) -/
def bt (x : Int32) (i : Nat) : Bool := x.toBitVec.getLsbD i
theorem b_ext {x y : Int32} (h : ∀ i, i < 32 → bt x i = bt y i) : x = y := Int32.toBitVec_inj.mp (BitVec.eq_of_getLsbD_eq (fun i hi => h i hi))
theorem b_or (x y : Int32) (i : Nat) : bt (x ||| y) i = (bt x i || bt y i) := by unfold bt; rw [Int32.toBitVec_or, BitVec.getLsbD_or]
theorem b_and (x y : Int32) (i : Nat) : bt (x &&& y) i = (bt x i && bt y i) := by unfold bt; rw [Int32.toBitVec_and, BitVec.getLsbD_and]
theorem b_big {x : Int32} {i : Nat} (h : 32 ≤ i) : bt x i = false := BitVec.getLsbD_of_ge _ _ h
theorem b_0 (i : Nat) : bt 0 i = false := BitVec.getLsbD_zero
theorem s_l : ∀ n, n < 32 → ((nI n &&& 31).toBitVec.smod 32).toNat = n := by decide +kernel
theorem b_shl (n : Nat) (hn : n < 32) (x : Int32) {i : Nat} (hi : i < 32) : bt (x <<< (nI n &&& 31)) i = (decide (n ≤ i) && bt x (i - n)) := by
  unfold bt
  rw [Int32.toBitVec_shiftLeft]
  show (x.toBitVec <<< ((nI n &&& 31).toBitVec.smod 32).toNat).getLsbD i = _
  rw [s_l n hn, BitVec.getLsbD_shiftLeft]
  rcases Nat.lt_or_ge i n with h | h
  · simp [h, Nat.not_le.mpr h]
  · simp [hi, h, Nat.not_lt.mpr h]
theorem b_sshr (n : Nat) (hn : n < 32) (x : Int32) {i : Nat} (hi : i < 32) : bt (x >>> (nI n &&& 31)) i = if n + i < 32 then bt x (n + i) else bt x 31 := by
  unfold bt
  rw [Int32.toBitVec_shiftRight]
  show (x.toBitVec.sshiftRight ((nI n &&& 31).toBitVec.smod 32).toNat).getLsbD i = _
  rw [s_l n hn, BitVec.getLsbD_sshiftRight, BitVec.msb_eq_getLsbD_last]
  simp [hi]
def fb_ct (p : Nat → Bool) : Nat → Nat
  | 0 => 0
  | n + 1 => fb_ct p n + (if p n then 1 else 0)
theorem fb_ct_succ (p : Nat → Bool) (n : Nat) : fb_ct p (n + 1) = fb_ct p n + (if p n then 1 else 0) := rfl
theorem fb_ct_le (p : Nat → Bool) : ∀ n, fb_ct p n ≤ n
  | 0 => Nat.le_refl _
  | n + 1 => by
    have h := fb_ct_le p n
    rw [fb_ct_succ]
    split <;> omega
theorem fb_ct_step (p : Nat → Bool) (m : Nat) : ∀ n, fb_ct p m ≤ fb_ct p (m + n)
  | 0 => Nat.le_refl _
  | n + 1 => by
    have h := fb_ct_step p m n
    show fb_ct p m ≤ fb_ct p (m + n + 1)
    rw [fb_ct_succ]
    omega
theorem fb_ct_mono (p : Nat → Bool) {m n : Nat} (h : m ≤ n) : fb_ct p m ≤ fb_ct p n := by
  have := fb_ct_step p m (n - m)
  rwa [Nat.add_sub_cancel' h] at this
theorem fb_ct_cong {p q : Nat → Bool} : ∀ {n : Nat}, (∀ k, k < n → p k = q k) → fb_ct p n = fb_ct q n
  | 0, _ => rfl
  | n + 1, h => by
    rw [fb_ct_succ, fb_ct_succ, fb_ct_cong (fun k hk => h k (by omega)), h n (by omega)]
theorem fb_ct_out (p : Nat → Bool) (b : Bool) {i n : Nat} (h : n ≤ i) : fb_ct (fun k => if k = i then b else p k) n = fb_ct p n :=
  fb_ct_cong fun k hk => if_neg (by omega)
theorem fb_ct_upd (p : Nat → Bool) (b : Bool) {i : Nat} : ∀ {n : Nat}, i < n → fb_ct (fun k => if k = i then b else p k) n + (if p i then 1 else 0) = fb_ct p n + (if b then 1 else 0)
  | 0, h => absurd h (Nat.not_lt_zero i)
  | n + 1, h => by
    rw [fb_ct_succ, fb_ct_succ]
    rcases Nat.lt_or_ge i n with q | q
    · have := fb_ct_upd p b q
      have e : (if n = i then b else p n) = p n := if_neg (by omega)
      rw [e]
      omega
    · have e : i = n := by omega
      subst e
      rw [fb_ct_out p b (Nat.le_refl _)]
      simp only [if_true]
      omega
theorem fb_ct_sub {p q : Nat → Bool} : ∀ {n : Nat}, (∀ k, k < n → p k = true → q k = true) → fb_ct p n ≤ fb_ct q n
  | 0, _ => Nat.le_refl _
  | n + 1, h => by
    have h1 := fb_ct_sub (n := n) (p := p) (q := q) (fun k hk => h k (by omega))
    have h2 := h n (by omega)
    rw [fb_ct_succ, fb_ct_succ]
    cases hp : p n <;> cases hq : q n <;> simp_all <;> omega
theorem fb_ct_not (p : Nat → Bool) : ∀ n, fb_ct p n + fb_ct (fun k => !p k) n = n
  | 0 => rfl
  | n + 1 => by
    have h := fb_ct_not p n
    rw [fb_ct_succ, fb_ct_succ]
    cases p n <;> simp <;> omega
theorem fb_ct_zero {p : Nat → Bool} : ∀ {n : Nat}, fb_ct p n = 0 ↔ ∀ k, k < n → p k = false
  | 0 => ⟨fun _ k hk => absurd hk (Nat.not_lt_zero k), fun _ => rfl⟩
  | n + 1 => by
    have h := fb_ct_zero (p := p) (n := n)
    rw [fb_ct_succ]
    constructor
    · intro e k hk
      have e1 : fb_ct p n = 0 := by omega
      rcases Nat.lt_or_ge k n with q | q
      · exact h.mp e1 k q
      · have ek : k = n := by omega
        subst ek
        cases hp : p k
        · rfl
        · simp [hp] at e
    · intro a
      rw [h.mpr (fun k hk => a k (by omega)), a n (by omega)]
      rfl
theorem fb_ct_pos {p : Nat → Bool} {n : Nat} : 0 < fb_ct p n ↔ ∃ k, k < n ∧ p k = true := by
  constructor
  · intro h
    refine Classical.byContradiction fun hx => ?_
    have := fb_ct_zero.mpr (fun k hk => by
      cases hp : p k
      · rfl
      · exact absurd ⟨k, hk, hp⟩ hx : ∀ k, k < n → p k = false)
    omega
  · rintro ⟨k, hk, hp⟩
    rcases Nat.eq_zero_or_pos (fb_ct p n) with e | e
    · have := fb_ct_zero.mp e k hk
      rw [this] at hp
      cases hp
    · exact e
theorem fb_ct_all {p : Nat → Bool} {n : Nat} : fb_ct p n = n ↔ ∀ k, k < n → p k = true := by
  have h := fb_ct_not p n
  constructor
  · intro e k hk
    have z : fb_ct (fun k => !p k) n = 0 := by omega
    have := fb_ct_zero.mp z k hk
    cases hp : p k
    · simp [hp] at this
    · rfl
  · intro a
    have z : fb_ct (fun k => !p k) n = 0 := fb_ct_zero.mpr (fun k hk => by simp [a k hk])
    omega
end
section
set_option maxRecDepth 100000
/-! sets of places as masks -/
theorem b_1 : ∀ j, j < 32 → bt 1 j = decide (j = 0) := by decide +kernel
theorem btI_eq {s : Int32} {i : Nat} (hi : i < 32) : btI s i = if bt s i = true then 1 else 0 := by
  apply b_ext
  intro j hj
  show bt ((s >>> (nI i &&& 31)) &&& 1) j = _
  rw [b_and, b_1 j hj]
  by_cases h : j = 0
  · subst h
    rw [b_sshr i hi s hj, if_pos (by omega)]
    cases h2 : bt s i
    · simp [h2, b_0]
    · simp [h2, b_1 0 (by decide)]
  · have e : decide (j = 0) = false := decide_eq_false h
    rw [e, Bool.and_false]
    cases h2 : bt s i
    · simp [b_0]
    · simp [b_1 j hj, h]
theorem bi0 {s : Int32} {i : Nat} (hi : i < 32) : btI s i = 0 ↔ bt s i = false := by
  rw [btI_eq hi]
  cases bt s i
  · simp
  · simp
theorem bi0' {s : Int32} {i : Nat} (hi : i < 32) : ¬ btI s i = 0 ↔ bt s i = true := by
  rw [btI_eq hi]
  cases bt s i
  · simp
  · simp
theorem min0 {s : Int32} {i : Nat} (hi : i < 32) : m_in s i = 0 ↔ bt s i = false := by
  unfold m_in
  rw [btI_eq hi]
  cases bt s i
  · simp
  · simp
theorem min0' {s : Int32} {i : Nat} (hi : i < 32) : ¬ m_in s i = 0 ↔ bt s i = true := by
  rw [min0 hi]
  cases bt s i
  · simp
  · simp
theorem b_one {j i : Nat} (hj : j < 32) (hi : i < 32) : bt ((1 : Int32) <<< (nI j &&& 31)) i = decide (i = j) := by
  rw [b_shl j hj 1 hi]
  by_cases h : i = j
  · subst h
    rw [Nat.sub_self, b_1 0 (by decide)]
    simp
  · by_cases h2 : j ≤ i
    · rw [b_1 (i - j) (by omega)]
      have e1 : decide (i - j = 0) = false := decide_eq_false (by omega)
      have e2 : decide (i = j) = false := decide_eq_false h
      rw [e1, e2, Bool.and_false]
    · have e1 : decide (j ≤ i) = false := decide_eq_false h2
      have e2 : decide (i = j) = false := decide_eq_false h
      rw [e1, e2, Bool.false_and]
theorem nI_inj {a b : Nat} (ha : a < 2 ^ 31) (hb : b < 2 ^ 31) (h : nI a = nI b) : a = b := (nI_eq ha hb).mp h
theorem nI_nm1 {a : Nat} (ha : a < 2 ^ 31) : ¬ nI a = -1 := by
  intro h
  have := nI_pos ha
  rw [h] at this
  exact this (by decide)
theorem nI_nneg {a : Nat} (ha : a < 2 ^ 31) : ¬ nI a < 0 := nI_pos ha
theorem orL_bt {s v : Int32} (hv : okv v) {i : Nat} (hi : i < 32) : bt (orL s v) i = true ↔ bt s i = true ∨ v = nI i := by
  rcases hv with rfl | ⟨j, hj, rfl⟩
  · unfold orL
    rw [if_pos (by decide)]
    constructor
    · intro h; exact Or.inl h
    · intro h
      rcases h with h | h
      · exact h
      · exact absurd h.symm (nI_nm1 (by omega))
  · unfold orL
    rw [if_neg (nI_nneg (by omega)), b_or, b_one (by omega) hi]
    constructor
    · intro h
      rw [Bool.or_eq_true] at h
      rcases h with h | h
      · exact Or.inl h
      · right
        rw [of_decide_eq_true h]
    · intro h
      rcases h with h | h
      · rw [h, Bool.true_or]
      · have : j = i := nI_inj (by omega) (by omega) h
        rw [decide_eq_true this.symm, Bool.or_true]
theorem bitO_bt {v : Int32} (hv : okv v) {i : Nat} (hi : i < 32) : bt (bitO v) i = true ↔ v = nI i := by
  rcases hv with rfl | ⟨j, hj, rfl⟩
  · unfold bitO
    rw [if_neg (by decide), b_0]
    constructor
    · intro h; cases h
    · intro h; exact absurd h.symm (nI_nm1 (by omega))
  · unfold bitO
    rw [if_pos (nI_pos' (by omega)), b_one (by omega) hi]
    constructor
    · intro h; rw [of_decide_eq_true h]
    · intro h; exact decide_eq_true (nI_inj (by omega) (by omega) h).symm
/-- a set of places 0 to 11 -/
def sm (s : Int32) : Prop := ∀ i, 12 ≤ i → bt s i = false
theorem sm_0 : sm 0 := fun i _ => b_0 i
theorem sm_or {a b : Int32} (ha : sm a) (hb : sm b) : sm (a ||| b) := fun i h => by rw [b_or, ha i h, hb i h]; rfl
theorem sm_and {a b : Int32} (ha : sm a) : sm (a &&& b) := fun i h => by rw [b_and, ha i h]; rfl
theorem b_false {x : Bool} (h : ¬ x = true) : x = false := by cases x <;> simp_all
theorem sm_orL {s v : Int32} (hs : sm s) (hv : okv v) : sm (orL s v) := by
  intro i hi
  rcases Nat.lt_or_ge i 32 with h | h
  · refine b_false fun q => ?_
    rcases (orL_bt hv h).mp q with q | q
    · rw [hs i hi] at q; cases q
    · rcases hv with rfl | ⟨j, hj, rfl⟩
      · exact nI_nm1 (by omega) q.symm
      · have := nI_inj (by omega) (by omega) q
        omega
  · exact b_big h
theorem sm_bitO {v : Int32} (hv : okv v) : sm (bitO v) := by
  intro i hi
  rcases Nat.lt_or_ge i 32 with h | h
  · refine b_false fun q => ?_
    have q := (bitO_bt hv h).mp q
    rcases hv with rfl | ⟨j, hj, rfl⟩
    · exact nI_nm1 (by omega) q.symm
    · have := nI_inj (by omega) (by omega) q
      omega
  · exact b_big h
theorem sm_one {j : Nat} (hj : j < 12) : sm ((1 : Int32) <<< (nI j &&& 31)) := by
  intro i hi
  rcases Nat.lt_or_ge i 32 with h | h
  · rw [b_one (by omega) h]
    exact decide_eq_false (by omega)
  · exact b_big h
theorem sm_ext {a b : Int32} (ha : sm a) (hb : sm b) (h : ∀ i, i < 12 → (bt a i = true ↔ bt b i = true)) : a = b := by
  apply b_ext
  intro i _
  rcases Nat.lt_or_ge i 12 with q | q
  · have := h i q
    cases h1 : bt a i <;> cases h2 : bt b i <;> simp_all
  · rw [ha i q, hb i q]
/-- how many -/
def ct (s : Int32) : Nat := fb_ct (bt s) 12
theorem ct_le (s : Int32) : ct s ≤ 12 := fb_ct_le _ _
theorem ct_lt {p q : Nat → Bool} : ∀ {n : Nat}, (∀ k, k < n → p k = true → q k = true) → (∃ k, k < n ∧ q k = true ∧ p k = false) → fb_ct p n < fb_ct q n
  | 0, _, h => by obtain ⟨k, hk, _⟩ := h; omega
  | n + 1, h, h2 => by
    rw [fb_ct_succ, fb_ct_succ]
    by_cases c : ∃ k, k < n ∧ q k = true ∧ p k = false
    · have h1 := ct_lt (n := n) (p := p) (q := q) (fun k hk => h k (by omega)) c
      have h3 := h n (by omega)
      cases hp : p n <;> cases hq : q n <;> simp_all <;> omega
    · obtain ⟨k, hk, hq, hp⟩ := h2
      have e : k = n := by
        rcases Nat.lt_or_ge k n with z | z
        · exact absurd ⟨k, z, hq, hp⟩ c
        · omega
      subst e
      have h1 := fb_ct_sub (n := k) (p := p) (q := q) (fun j hj => h j (by omega))
      rw [hp, hq]
      simp
      omega
theorem bitsL_ct (s : Int32) : ∀ (n i : Nat), i + n ≤ 12 → bitsL s n i (nI (fb_ct (bt s) i)) = nI (fb_ct (bt s) (i + n)) := by
  intro n
  induction n with
  | zero => intro i _; rfl
  | succ n ih =>
    intro i h
    show bitsL s n (i + 1) (nI (fb_ct (bt s) i) + btI s i) = _
    have e : nI (fb_ct (bt s) i) + btI s i = nI (fb_ct (bt s) (i + 1)) := by
      rw [btI_eq (by omega), fb_ct_succ]
      cases bt s i
      · simp
      · simp [nI_1]
    rw [e, ih (i + 1) (by omega), Nat.add_right_comm i 1 n]
    rfl
theorem x_bits_ct (s : Int32) : x_bits s = nI (ct s) := bitsL_ct s 12 0 (by decide)
theorem szL_ct (s : Int32) : ∀ (n i : Nat), i + n ≤ 12 → szL s n i (nI (fb_ct (bt s) i)) = nI (fb_ct (bt s) (i + n)) := by
  intro n
  induction n with
  | zero => intro i _; rfl
  | succ n ih =>
    intro i h
    show szL s n (i + 1) (if m_in s i = 0 then nI (fb_ct (bt s) i) else nI (fb_ct (bt s) i) + 1) = _
    have e : (if m_in s i = 0 then nI (fb_ct (bt s) i) else nI (fb_ct (bt s) i) + 1) = nI (fb_ct (bt s) (i + 1)) := by
      rw [fb_ct_succ]
      by_cases c : m_in s i = 0
      · rw [if_pos c, (min0 (by omega)).mp c]
        simp
      · rw [if_neg c, (min0' (by omega)).mp c]
        simp [nI_1]
    rw [e, ih (i + 1) (by omega), Nat.add_right_comm i 1 n]
    rfl
theorem m_size_ct (s : Int32) : m_size s = nI (ct s) := szL_ct s 12 0 (by decide)
/-- a set and its image have as many -/
theorem ct_im (p : Nat → Bool) (π : Nat → Nat) (hlt : ∀ i, i < 12 → p i = true → π i < 12) (hinj : ∀ i j, i < 12 → j < 12 → p i = true → p j = true → π i = π j → i = j) : ∀ n, n ≤ 12 → ∀ q : Nat → Bool, (∀ y, y < 12 → (q y = true ↔ ∃ i, i < n ∧ p i = true ∧ π i = y)) → fb_ct q 12 = fb_ct p n := by
  intro n
  induction n with
  | zero =>
    intro _ q h
    refine fb_ct_zero.mpr fun k hk => b_false fun c => ?_
    obtain ⟨i, hi, _⟩ := (h k hk).mp c
    omega
  | succ n ih =>
    intro hn q h
    rw [fb_ct_succ p n]
    by_cases c : p n = true
    · have hx : π n < 12 := hlt n (by omega) c
      have e := ih (by omega) (fun k => if k = π n then false else q k) (by
        intro y hy
        by_cases e : y = π n
        · simp only [if_pos e]
          constructor
          · intro z; cases z
          · rintro ⟨i, hi, hp, hq⟩
            have := hinj i n (by omega) (by omega) hp c (hq.trans e)
            omega
        · simp only [if_neg e]
          rw [h y hy]
          constructor
          · rintro ⟨i, hi, hp, hq⟩
            refine ⟨i, ?_, hp, hq⟩
            rcases Nat.lt_or_ge i n with z | z
            · exact z
            · have : i = n := by omega
              subst this
              exact absurd hq.symm e
          · rintro ⟨i, hi, hp, hq⟩
            exact ⟨i, by omega, hp, hq⟩)
      have u := fb_ct_upd q false hx
      have hq : q (π n) = true := (h (π n) hx).mpr ⟨n, by omega, c, rfl⟩
      rw [hq, e] at u
      rw [if_pos c]
      simp at u
      omega
    · rw [if_neg c, Nat.add_zero]
      refine ih (by omega) q fun y hy => ?_
      rw [h y hy]
      constructor
      · rintro ⟨i, hi, hp, hq⟩
        refine ⟨i, ?_, hp, hq⟩
        rcases Nat.lt_or_ge i n with z | z
        · exact z
        · have : i = n := by omega
          subst this
          exact absurd hp c
      · rintro ⟨i, hi, hp, hq⟩
        exact ⟨i, by omega, hp, hq⟩
end
section
set_option maxRecDepth 100000
/-! what links lead to: the least closed set -/
def cE (lk : Nat → Nat → Int32) (x y : Nat) : Prop := lk x 0 = nI y ∨ lk x 1 = nI y
def cP (lk : Nat → Nat → Int32) (P : Nat → Prop) : Prop := ∀ x y, x < 12 → y < 12 → P x → cE lk x y → P y
def okL (lk : Nat → Nat → Int32) : Prop := ∀ x w, okv (lk x w)
def isCl (lk : Nat → Nat → Int32) (s r : Int32) : Prop := sm r ∧ (∀ i, i < 12 → bt s i = true → bt r i = true) ∧ cP lk (fun i => bt r i = true) ∧ ∀ P : Nat → Prop, (∀ i, i < 12 → bt s i = true → P i) → cP lk P → ∀ i, i < 12 → bt r i = true → P i
/-- one sweep: keeps sets small, grows, follows every link once, stays in every closed set -/
def isSw (lk : Nat → Nat → Int32) (F : Int32 → Int32) : Prop := ∀ s, sm s → sm (F s) ∧ (∀ i, i < 12 → bt s i = true → bt (F s) i = true) ∧ (∀ x y, x < 12 → y < 12 → bt s x = true → cE lk x y → bt (F s) y = true) ∧ ∀ P : Nat → Prop, (∀ i, i < 12 → bt s i = true → P i) → cP lk P → ∀ i, i < 12 → bt (F s) i = true → P i
def iterF (F : Int32 → Int32) : Nat → Int32 → Int32
  | 0, s => s
  | n + 1, s => iterF F n (F s)
theorem iterF_fix {F : Int32 → Int32} {s : Int32} (h : F s = s) : ∀ n, iterF F n s = s := by
  intro n
  induction n with
  | zero => rfl
  | succ n ih =>
    show iterF F n (F s) = s
    rw [h]
    exact ih
theorem iterF_sm {lk : Nat → Nat → Int32} {F : Int32 → Int32} (hF : isSw lk F) : ∀ n s, sm s → sm (iterF F n s) := by
  intro n
  induction n with
  | zero => intro s h; exact h
  | succ n ih => intro s h; exact ih (F s) (hF s h).1
theorem iterF_up {lk : Nat → Nat → Int32} {F : Int32 → Int32} (hF : isSw lk F) : ∀ n s, sm s → ∀ i, i < 12 → bt s i = true → bt (iterF F n s) i = true := by
  intro n
  induction n with
  | zero => intro s _ i _ h; exact h
  | succ n ih => intro s h i hi q; exact ih (F s) (hF s h).1 i hi ((hF s h).2.1 i hi q)
theorem iterF_in {lk : Nat → Nat → Int32} {F : Int32 → Int32} (hF : isSw lk F) (P : Nat → Prop) (hP : cP lk P) : ∀ n s, sm s → (∀ i, i < 12 → bt s i = true → P i) → ∀ i, i < 12 → bt (iterF F n s) i = true → P i := by
  intro n
  induction n with
  | zero => intro s _ h i hi q; exact h i hi q
  | succ n ih => intro s h q i hi z; exact ih (F s) (hF s h).1 ((hF s h).2.2.2 P q hP) i hi z
theorem sw_grow {lk : Nat → Nat → Int32} {F : Int32 → Int32} (hF : isSw lk F) {s : Int32} (hs : sm s) (hne : ¬ F s = s) : ct s + 1 ≤ ct (F s) := by
  obtain ⟨h1, h2, -, -⟩ := hF s hs
  refine ct_lt h2 (Classical.byContradiction fun c => hne (sm_ext h1 hs fun i hi => ⟨fun q => ?_, h2 i hi⟩))
  refine Classical.byContradiction fun z => c ⟨i, hi, q, b_false z⟩
theorem iterF_stab {lk : Nat → Nat → Int32} {F : Int32 → Int32} (hF : isSw lk F) : ∀ n s, sm s → F (iterF F n s) = iterF F n s ∨ n + ct s ≤ ct (iterF F n s) := by
  intro n
  induction n with
  | zero => intro s _; right; show 0 + ct s ≤ ct s; omega
  | succ n ih =>
    intro s hs
    by_cases c : F s = s
    · left
      rw [iterF_fix c]
      exact c
    · rcases ih (F s) (hF s hs).1 with h | h
      · exact Or.inl h
      · right
        have := sw_grow hF hs c
        show n + 1 + ct s ≤ ct (iterF F n (F s))
        omega
theorem sw_zero {lk : Nat → Nat → Int32} {F : Int32 → Int32} (hF : isSw lk F) : F 0 = 0 := by
  obtain ⟨h1, h2, -, h4⟩ := hF 0 sm_0
  refine sm_ext h1 sm_0 fun i hi => ⟨fun q => ?_, h2 i hi⟩
  exact (h4 (fun _ => False) (fun i _ h => by rw [b_0] at h; cases h) (fun _ _ _ _ h _ => h) i hi q).elim
theorem iterF_done {lk : Nat → Nat → Int32} {F : Int32 → Int32} (hF : isSw lk F) {n : Nat} (hn : 12 ≤ n) {s : Int32} (hs : sm s) : F (iterF F n s) = iterF F n s := by
  rcases iterF_stab hF n s hs with h | h
  · exact h
  · have h1 := ct_le (iterF F n s)
    have h2 : ct s = 0 := by omega
    have e : s = 0 := sm_ext hs sm_0 fun i hi => by
      have := fb_ct_zero.mp h2 i hi
      rw [this, b_0]
    subst e
    rw [iterF_fix (sw_zero hF)]
    exact sw_zero hF
theorem iterF_is {lk : Nat → Nat → Int32} {F : Int32 → Int32} (hF : isSw lk F) {n : Nat} (hn : 12 ≤ n) {s : Int32} (hs : sm s) : isCl lk s (iterF F n s) := by
  refine ⟨iterF_sm hF n s hs, iterF_up hF n s hs, fun x y hx hy q e => ?_, fun P q hP => iterF_in hF P hP n s hs q⟩
  have := (hF _ (iterF_sm hF n s hs)).2.2.1 x y hx hy q e
  rw [iterF_done hF hn hs] at this
  exact this
/-- PersistentGraph's sweep -/
theorem swp1 {lk : Nat → Nat → Int32} (hk : okL lk) {s : Int32} (hs : sm s) {i : Nat} (hi : i < 12) : sm (if btI s i = 0 then s else orL (orL s (lk i 0)) (lk i 1)) ∧ ∀ j, j < 12 → (bt (if btI s i = 0 then s else orL (orL s (lk i 0)) (lk i 1)) j = true ↔ bt s j = true ∨ (bt s i = true ∧ cE lk i j)) := by
  by_cases c : btI s i = 0
  · rw [if_pos c]
    refine ⟨hs, fun j hj => ⟨fun h => Or.inl h, fun h => ?_⟩⟩
    rcases h with h | ⟨h, -⟩
    · exact h
    · rw [(bi0 (by omega)).mp c] at h; cases h
  · rw [if_neg c]
    refine ⟨sm_orL (sm_orL hs (hk i 0)) (hk i 1), fun j hj => ?_⟩
    have hb := (bi0' (by omega)).mp c
    rw [orL_bt (hk i 1) (by omega), orL_bt (hk i 0) (by omega)]
    constructor
    · rintro ((h | h) | h)
      · exact Or.inl h
      · exact Or.inr ⟨hb, Or.inl h⟩
      · exact Or.inr ⟨hb, Or.inr h⟩
    · rintro (h | ⟨-, h | h⟩)
      · exact Or.inl (Or.inl h)
      · exact Or.inl (Or.inr h)
      · exact Or.inr h
theorem swpL_is {lk : Nat → Nat → Int32} (hk : okL lk) : ∀ (n i : Nat) (s : Int32), i + n = 12 → sm s → sm (swpL lk n i s) ∧ (∀ j, j < 12 → bt s j = true → bt (swpL lk n i s) j = true) ∧ (∀ x y, i ≤ x → x < 12 → y < 12 → bt s x = true → cE lk x y → bt (swpL lk n i s) y = true) ∧ ∀ P : Nat → Prop, (∀ j, j < 12 → bt s j = true → P j) → cP lk P → ∀ j, j < 12 → bt (swpL lk n i s) j = true → P j := by
  intro n
  induction n with
  | zero =>
    intro i s hi hs
    exact ⟨hs, fun _ _ h => h, fun x y h1 h2 => absurd h2 (by omega), fun P h _ j hj q => h j hj q⟩
  | succ n ih =>
    intro i s hi hs
    obtain ⟨g1, g2⟩ := swp1 hk hs (i := i) (by omega)
    obtain ⟨a1, a2, a3, a4⟩ := ih (i + 1) _ (by omega) g1
    refine ⟨a1, fun j hj h => a2 j hj ((g2 j hj).mpr (Or.inl h)), fun x y h1 hx hy h e => ?_, fun P h hP j hj q => ?_⟩
    · by_cases c : x = i
      · subst c
        exact a2 y hy ((g2 y hy).mpr (Or.inr ⟨h, e⟩))
      · exact a3 x y (by omega) hx hy ((g2 x hx).mpr (Or.inl h)) e
    · refine a4 P (fun j hj z => ?_) hP j hj q
      rcases (g2 j hj).mp z with z | ⟨z, e⟩
      · exact h j hj z
      · exact hP i j (by omega) hj (h i (by omega) z) e
theorem swp_sw {lk : Nat → Nat → Int32} (hk : okL lk) : isSw lk (swpL lk 12 0) := by
  intro s hs
  obtain ⟨a1, a2, a3, a4⟩ := swpL_is hk 12 0 s rfl hs
  exact ⟨a1, a2, fun x y hx hy => a3 x y (Nat.zero_le _) hx hy, a4⟩
theorem cloL_it (lk : Nat → Nat → Int32) : ∀ (n : Nat) (s b : Int32), (s = b → swpL lk 12 0 s = s) → cloL lk n s b = iterF (swpL lk 12 0) n s := by
  intro n
  induction n with
  | zero => intro s b _; rfl
  | succ n ih =>
    intro s b h
    show (if s = b then s else cloL lk n (swpL lk 12 0 s) s) = iterF (swpL lk 12 0) n (swpL lk 12 0 s)
    by_cases c : s = b
    · rw [if_pos c, h c, iterF_fix (h c)]
    · rw [if_neg c]
      exact ih _ _ (fun e => by rw [e]; exact e)
theorem x_clo_is {σ : XS} (hk : okL (x_link σ)) {s : Int32} (hs : sm s) : isCl (x_link σ) s (x_clo σ s) := by
  unfold x_clo
  rw [cloL_it (x_link σ) 13 s 0 (fun e => by rw [e]; exact sw_zero (swp_sw hk))]
  exact iterF_is (swp_sw hk) (by decide) hs
/-- the reference's sweep -/
theorem spr1 {lk : Nat → Int32} (hk : ∀ k, okv (lk k)) {s : Int32} (hs : sm s) {k : Nat} (hi : k < 24) : sm (if m_in s (k / 2) = 0 then s else orL s (lk k)) ∧ ∀ j, j < 12 → (bt (if m_in s (k / 2) = 0 then s else orL s (lk k)) j = true ↔ bt s j = true ∨ (bt s (k / 2) = true ∧ lk k = nI j)) := by
  by_cases c : m_in s (k / 2) = 0
  · rw [if_pos c]
    refine ⟨hs, fun j hj => ⟨fun h => Or.inl h, fun h => ?_⟩⟩
    rcases h with h | ⟨h, -⟩
    · exact h
    · rw [(min0 (by omega)).mp c] at h; cases h
  · rw [if_neg c]
    refine ⟨sm_orL hs (hk k), fun j hj => ?_⟩
    have hb := (min0' (by omega)).mp c
    rw [orL_bt (hk k) (by omega)]
    constructor
    · rintro (h | h)
      · exact Or.inl h
      · exact Or.inr ⟨hb, h⟩
    · rintro (h | ⟨-, h⟩)
      · exact Or.inl h
      · exact Or.inr h
def l2 (lk : Nat → Int32) (x w : Nat) : Int32 := lk (2 * x + w)
theorem l2_e {lk : Nat → Int32} {k y : Nat} (h : lk k = nI y) : cE (l2 lk) (k / 2) y := by
  rcases Nat.mod_two_eq_zero_or_one k with e | e
  · left
    show lk (2 * (k / 2) + 0) = nI y
    rw [show 2 * (k / 2) + 0 = k by omega]
    exact h
  · right
    show lk (2 * (k / 2) + 1) = nI y
    rw [show 2 * (k / 2) + 1 = k by omega]
    exact h
theorem sprI_is {lk : Nat → Int32} (hk : ∀ k, okv (lk k)) : ∀ (n i : Nat) (s : Int32), i + n = 24 → sm s → sm (sprI lk n i s) ∧ (∀ j, j < 12 → bt s j = true → bt (sprI lk n i s) j = true) ∧ (∀ k y, i ≤ k → k < 24 → y < 12 → bt s (k / 2) = true → lk k = nI y → bt (sprI lk n i s) y = true) ∧ ∀ P : Nat → Prop, (∀ j, j < 12 → bt s j = true → P j) → cP (l2 lk) P → ∀ j, j < 12 → bt (sprI lk n i s) j = true → P j := by
  intro n
  induction n with
  | zero =>
    intro i s hi hs
    exact ⟨hs, fun _ _ h => h, fun x y h1 h2 => absurd h2 (by omega), fun P h _ j hj q => h j hj q⟩
  | succ n ih =>
    intro i s hi hs
    obtain ⟨g1, g2⟩ := spr1 hk hs (k := i) (by omega)
    obtain ⟨a1, a2, a3, a4⟩ := ih (i + 1) _ (by omega) g1
    refine ⟨a1, fun j hj h => a2 j hj ((g2 j hj).mpr (Or.inl h)), fun k y h1 hx hy h e => ?_, fun P h hP j hj q => ?_⟩
    · by_cases c : k = i
      · subst c
        exact a2 y hy ((g2 y hy).mpr (Or.inr ⟨h, e⟩))
      · exact a3 k y (by omega) hx hy ((g2 (k / 2) (by omega)).mpr (Or.inl h)) e
    · refine a4 P (fun j hj z => ?_) hP j hj q
      rcases (g2 j hj).mp z with z | ⟨z, e⟩
      · exact h j hj z
      · exact hP (i / 2) j (by omega) hj (h (i / 2) (by omega) z) (l2_e e)
theorem spr_sw {lk : Nat → Int32} (hk : ∀ k, okv (lk k)) : isSw (l2 lk) (sprI lk 24 0) := by
  intro s hs
  obtain ⟨a1, a2, a3, a4⟩ := sprI_is hk 24 0 s rfl hs
  refine ⟨a1, a2, fun x y hx hy h e => ?_, a4⟩
  rcases e with e | e
  · refine a3 (2 * x + 0) y (Nat.zero_le _) (by omega) hy ?_ e
    rw [show (2 * x + 0) / 2 = x by omega]
    exact h
  · refine a3 (2 * x + 1) y (Nat.zero_le _) (by omega) hy ?_ e
    rw [show (2 * x + 1) / 2 = x by omega]
    exact h
theorem sprL_it (lk : Nat → Int32) : ∀ (n : Nat) (s : Int32), sprL lk n s = iterF (sprI lk 24 0) n s := by
  intro n
  induction n with
  | zero => intro s; rfl
  | succ n ih => intro s; exact ih _
theorem m_spread_is {σ : XS} {w : Int32} (hk : ∀ k, okv (m_lk σ w k)) {s : Int32} (hs : sm s) : isCl (l2 (m_lk σ w)) s (m_spread σ s w) := by
  unfold m_spread
  rw [sprL_it]
  exact iterF_is (spr_sw hk) (by decide) hs
/-- places of the reference under π -/
def im (π : Nat → Nat) (v : Int32) : Int32 := if v < 0 then -1 else nI (π v.toNatClampNeg)
theorem im_m1 (π : Nat → Nat) : im π (-1) = -1 := by
  unfold im
  rw [if_pos (by decide)]
theorem im_n (π : Nat → Nat) {j : Nat} (hj : j < 12) : im π (nI j) = nI (π j) := by
  unfold im
  rw [if_neg (nI_nneg (by omega)), nI_clamp (by omega)]
theorem im_eq {π : Nat → Nat} {v : Int32} (hv : okv v) {y : Nat} (hy : y < 12) (h : im π v = nI y) (hr : ∀ j, j < 12 → v = nI j → π j < 12) : ∃ j, j < 12 ∧ v = nI j ∧ π j = y := by
  rcases hv with rfl | ⟨j, hj, rfl⟩
  · rw [im_m1] at h
    exact absurd h.symm (nI_nm1 (by omega))
  · rw [im_n π hj] at h
    have := hr j hj rfl
    exact ⟨j, hj, rfl, nI_inj (by omega) (by omega) h⟩
/-- the image of what is reached is what is reached from the image -/
theorem cl_im {lk lk' : Nat → Nat → Int32} {s r s' r' : Int32} {π : Nat → Nat} (hk : okL lk) (h : isCl lk s r) (h' : isCl lk' s' r') (hs : ∀ y, y < 12 → (bt s' y = true ↔ ∃ i, i < 12 ∧ bt s i = true ∧ π i = y)) (hlt : ∀ i, i < 12 → bt r i = true → π i < 12) (hE : ∀ i, i < 12 → bt r i = true → lk' (π i) 0 = im π (lk i 0) ∧ lk' (π i) 1 = im π (lk i 1)) : ∀ y, y < 12 → (bt r' y = true ↔ ∃ i, i < 12 ∧ bt r i = true ∧ π i = y) := by
  have key : ∀ i j, i < 12 → j < 12 → bt r i = true → cE lk i j → bt r j = true := fun i j hi hj q e => h.2.2.1 i j hi hj q e
  intro y hy
  constructor
  · intro q
    refine h'.2.2.2 (fun y => ∃ i, i < 12 ∧ bt r i = true ∧ π i = y) (fun y hy z => ?_) ?_ y hy q
    · obtain ⟨i, hi, z1, z2⟩ := (hs y hy).mp z
      exact ⟨i, hi, h.2.1 i hi z1, z2⟩
    · rintro x y hx hy ⟨i, hi, z1, rfl⟩ e
      have hw : ∀ w, w < 2 → lk' (π i) w = nI y → lk' (π i) w = im π (lk i w) → ∃ k, k < 12 ∧ bt r k = true ∧ π k = y := by
        intro w hw e1 e2
        obtain ⟨j, hj, e3, e4⟩ := im_eq (hk i w) hy (e2.symm.trans e1) (fun j hj ej => hlt j hj (key i j hi hj z1 (by
          rcases (show w = 0 ∨ w = 1 by omega) with rfl | rfl
          · exact Or.inl ej
          · exact Or.inr ej)))
        refine ⟨j, hj, key i j hi hj z1 ?_, e4⟩
        rcases (show w = 0 ∨ w = 1 by omega) with rfl | rfl
        · exact Or.inl e3
        · exact Or.inr e3
      rcases e with e | e
      · exact hw 0 (by decide) e (hE i hi z1).1
      · exact hw 1 (by decide) e (hE i hi z1).2
  · rintro ⟨i, hi, z, rfl⟩
    have : bt r i = true ∧ bt r' (π i) = true := by
      refine h.2.2.2 (fun i => bt r i = true ∧ bt r' (π i) = true) (fun i hi q => ?_) ?_ i hi z
      · have q1 := h.2.1 i hi q
        have := hlt i hi q1
        exact ⟨q1, h'.2.1 (π i) this ((hs (π i) this).mpr ⟨i, hi, q, rfl⟩)⟩
      · rintro x y hx hy ⟨q1, q2⟩ e
        have q3 := key x y hx hy q1 e
        refine ⟨q3, h'.2.2.1 (π x) (π y) (hlt x hx q1) (hlt y hy q3) q2 ?_⟩
        rcases e with e | e
        · left
          rw [(hE x hx q1).1, e, im_n π hy]
        · right
          rw [(hE x hx q1).2, e, im_n π hy]
    exact this.2
/-- two graphs that agree on what is reached -/
theorem cl_same {lk lk' : Nat → Nat → Int32} {s r r' : Int32} (hk : okL lk) (h : isCl lk s r) (h' : isCl lk' s r') (hE : ∀ i, i < 12 → bt r i = true → lk' i 0 = lk i 0 ∧ lk' i 1 = lk i 1) : r' = r := by
  have hid : ∀ v, okv v → im (fun i => i) v = v := by
    rintro v (rfl | ⟨j, hj, rfl⟩)
    · exact im_m1 _
    · exact im_n _ hj
  have key := cl_im (π := fun i => i) hk h h' (fun y hy => ⟨fun z => ⟨y, hy, z, rfl⟩, fun ⟨i, _, z, e⟩ => by rw [← e]; exact z⟩) (fun i hi _ => hi) (fun i hi q => by
    rw [hid (lk i 0) (hk i 0), hid (lk i 1) (hk i 1)]
    exact hE i hi q)
  refine sm_ext h'.1 h.1 fun y hy => ?_
  rw [key y hy]
  exact ⟨fun ⟨i, _, z, e⟩ => by rw [← e]; exact z, fun z => ⟨y, hy, z, rfl⟩⟩
end
section
set_option maxRecDepth 100000
/-! PersistentGraph's state against the reference's: places under a map π, on a set A that holds all that can be come to -/
def wv (σ : XS) (x : Nat) : Int32 := if btI (σ.1 11) x = 0 then σ.2 0 x else σ.2 12 x
def Cm (μ : XS) (i : Nat) : Prop := bt (m_comm μ) i = true
def Sim (π : Nat → Nat) (A : Nat → Prop) (σ μ : XS) : Prop :=
  okX σ ∧ okM μ ∧ (sm (σ.1 3) ∧ sm (σ.1 14)) ∧ (∀ j, j < 12 → μ.1 2 = nI j → A j) ∧ (∀ k j, k < 4 → j < 12 → μ.2 3 k = nI j → A j) ∧ cP (l2 (μ.2 1)) A ∧
  (σ.1 15 = im π (μ.1 2) ∧ σ.1 2 = im π (μ.1 6)) ∧ (∀ k, k < 4 → σ.2 16 k = im π (μ.2 3 k)) ∧
  (∀ i, i < 12 → A i ∨ Cm μ i → π i < 12) ∧ (∀ i j, i < 12 → j < 12 → (A i ∨ Cm μ i) → (A j ∨ Cm μ j) → π i = π j → i = j) ∧
  (∀ i, i < 12 → A i → wv σ (π i) = μ.2 0 i ∧ ∀ w, w < 2 → x_link σ (π i) w = im π (μ.2 1 (2 * i + w))) ∧
  (∀ i, i < 12 → Cm μ i → σ.2 0 (π i) = μ.2 4 i ∧ ∀ w, w < 2 → σ.2 1 (2 * π i + w) = im π (μ.2 5 (2 * i + w))) ∧
  (∀ y, y < 12 → (bt (σ.1 3) y = true ↔ ∃ i, i < 12 ∧ Cm μ i ∧ π i = y)) ∧
  (∀ i, i < 12 → A i ∨ Cm μ i → bt (σ.1 14) (π i) = true)
def SimR (σ μ : XS) : Prop := ∃ π A, Sim π A σ μ
theorem m_comm_eq {μ μ' : XS} (h5 : μ'.2 5 = μ.2 5) (h6 : μ'.1 6 = μ.1 6) : m_comm μ' = m_comm μ := by
  unfold m_comm m_spread
  have e : m_lk μ' 0 = m_lk μ 0 := funext fun k => by
    unfold m_lk
    rw [if_pos rfl, if_pos rfl, h5]
  rw [e, h6]
theorem Cm_eq {μ μ' : XS} (h5 : μ'.2 5 = μ.2 5) (h6 : μ'.1 6 = μ.1 6) (i : Nat) : Cm μ' i ↔ Cm μ i := by
  unfold Cm
  rw [m_comm_eq h5 h6]
theorem im_nn {π : Nat → Nat} {v : Int32} (hv : okv v) (hr : ∀ j, j < 12 → v = nI j → π j < 12) : 0 ≤ im π v ↔ 0 ≤ v := by
  rcases hv with rfl | ⟨j, hj, rfl⟩
  · rw [im_m1]
  · rw [im_n π hj]
    have := hr j hj rfl
    exact ⟨fun _ => nI_pos' (by omega), fun _ => nI_pos' (by omega)⟩
theorem im_neg {π : Nat → Nat} {v : Int32} (hv : okv v) (hr : ∀ j, j < 12 → v = nI j → π j < 12) : im π v < 0 ↔ v < 0 := by
  rcases hv with rfl | ⟨j, hj, rfl⟩
  · rw [im_m1]
  · rw [im_n π hj]
    have := hr j hj rfl
    exact ⟨fun h => absurd h (nI_nneg (by omega)), fun h => absurd h (nI_nneg (by omega))⟩
theorem im_leads {π : Nat → Nat} {v : Int32} (hv : okv v) (hr : ∀ j, j < 12 → v = nI j → π j < 12) : leads (im π v) = leads v := by
  unfold leads
  by_cases c : 0 ≤ v
  · rw [if_pos c, if_pos ((im_nn hv hr).mpr c)]
  · rw [if_neg c, if_neg (fun z => c ((im_nn hv hr).mp z))]
theorem im_inj {π : Nat → Nat} {S : Nat → Prop} (hr : ∀ i, i < 12 → S i → π i < 12) (hi : ∀ i j, i < 12 → j < 12 → S i → S j → π i = π j → i = j) {a b : Int32} (ha : okv a) (hb : okv b) (sa : ∀ j, j < 12 → a = nI j → S j) (sb : ∀ j, j < 12 → b = nI j → S j) : im π a = im π b ↔ a = b := by
  refine ⟨fun h => ?_, fun h => by rw [h]⟩
  rcases ha with rfl | ⟨i, hi1, rfl⟩
  · rcases hb with rfl | ⟨j, hj, rfl⟩
    · rfl
    · rw [im_m1, im_n π hj] at h
      have := hr j hj (sb j hj rfl)
      exact absurd h.symm (nI_nm1 (by omega))
  · rcases hb with rfl | ⟨j, hj, rfl⟩
    · rw [im_m1, im_n π hi1] at h
      have := hr i hi1 (sa i hi1 rfl)
      exact absurd h (nI_nm1 (by omega))
    · rw [im_n π hi1, im_n π hj] at h
      have h1 := hr i hi1 (sa i hi1 rfl)
      have h2 := hr j hj (sb j hj rfl)
      rw [hi i j hi1 hj (sa i hi1 rfl) (sb j hj rfl) (nI_inj (by omega) (by omega) h)]
theorem im_cong {π π' : Nat → Nat} {v : Int32} (hv : okv v) (h : ∀ j, j < 12 → v = nI j → π' j = π j) : im π' v = im π v := by
  rcases hv with rfl | ⟨j, hj, rfl⟩
  · rw [im_m1, im_m1]
  · rw [im_n π hj, im_n π' hj, h j hj rfl]
theorem btI_or_ne {L : Int32} {x j : Nat} (hx : x < 12) (hj : j < 12) (h : x ≠ j) : btI (L ||| ((1 : Int32) <<< (nI j &&& 31))) x = btI L x := by
  rw [btI_eq (by omega), btI_eq (by omega), b_or, b_one (by omega) (by omega), decide_eq_false h, Bool.or_false]
theorem btI_or_eq {L : Int32} {j : Nat} (hj : j < 12) : ¬ btI (L ||| ((1 : Int32) <<< (nI j &&& 31))) j = 0 := by
  rw [bi0' (by omega), b_or, b_one (by omega) (by omega), decide_eq_true rfl, Bool.or_true]
theorem bring_c {σ : XS} {j : Nat} (c : btI (σ.1 11) j = 0) : x_bring σ j = setA (setA (setA (setF σ 11 (σ.1 11 ||| ((1 : Int32) <<< (nI j &&& 31)))) 12 j (σ.2 0 j)) 13 (2 * j) (σ.2 1 (2 * j))) 13 (2 * j + 1) (σ.2 1 (2 * j + 1)) := by
  unfold x_bring
  rw [if_pos c]
theorem bring_n {σ : XS} {j : Nat} (c : ¬ btI (σ.1 11) j = 0) : x_bring σ j = σ := by
  unfold x_bring
  rw [if_neg c]
theorem bring_ld {σ : XS} {j : Nat} (hj : j < 12) : ¬ btI ((x_bring σ j).1 11) j = 0 := by
  by_cases c : btI (σ.1 11) j = 0
  · rw [bring_c c]
    exact btI_or_eq hj
  · rw [bring_n c]
    exact c
theorem wv_bring {σ : XS} {j x : Nat} (hj : j < 12) (hx : x < 12) : wv (x_bring σ j) x = wv σ x := by
  by_cases c : btI (σ.1 11) j = 0
  · rw [bring_c c]
    show (if btI (σ.1 11 ||| ((1 : Int32) <<< (nI j &&& 31))) x = 0 then σ.2 0 x else upd (σ.2 12) j (σ.2 0 j) x) = if btI (σ.1 11) x = 0 then σ.2 0 x else σ.2 12 x
    by_cases h : x = j
    · subst h
      rw [if_neg (btI_or_eq hx), if_pos c, pk_us]
    · rw [btI_or_ne hx hj h, pk_un h]
  · rw [bring_n c]
theorem link_bring {σ : XS} {j x w : Nat} (hj : j < 12) (hx : x < 12) (hw : w < 2) : x_link (x_bring σ j) x w = x_link σ x w := by
  by_cases c : btI (σ.1 11) j = 0
  · rw [bring_c c]
    show (if btI (σ.1 11 ||| ((1 : Int32) <<< (nI j &&& 31))) x = 0 then σ.2 1 (2 * x + w) else upd (upd (σ.2 13) (2 * j) (σ.2 1 (2 * j))) (2 * j + 1) (σ.2 1 (2 * j + 1)) (2 * x + w)) = if btI (σ.1 11) x = 0 then σ.2 1 (2 * x + w) else σ.2 13 (2 * x + w)
    by_cases h : x = j
    · subst h
      rw [if_neg (btI_or_eq hx), if_pos c]
      rcases (show w = 0 ∨ w = 1 by omega) with rfl | rfl
      · rw [pk_un (by omega)]
        exact pk_us
      · exact pk_us
    · rw [btI_or_ne hx hj h, pk_un (by omega), pk_un (by omega)]
  · rw [bring_n c]
theorem bring_mv {σ : XS} {j : Nat} (hj : j < 12) : (x_bring σ j).2 12 j = wv σ j := by
  rw [← wv_bring hj hj]
  unfold wv
  rw [if_neg (bring_ld hj)]
theorem bring_ml {σ : XS} {j w : Nat} (hj : j < 12) (hw : w < 2) : (x_bring σ j).2 13 (2 * j + w) = x_link σ j w := by
  rw [← link_bring hj hj hw]
  unfold x_link
  rw [if_neg (bring_ld hj)]
/-- what the reference can't see -/
def Keep (σ τ : XS) : Prop := (τ.1 2 = σ.1 2 ∧ τ.1 3 = σ.1 3 ∧ τ.1 14 = σ.1 14 ∧ τ.1 15 = σ.1 15) ∧ (τ.2 0 = σ.2 0 ∧ τ.2 1 = σ.2 1 ∧ τ.2 16 = σ.2 16) ∧ (∀ x, x < 12 → wv τ x = wv σ x) ∧ ∀ x w, x < 12 → w < 2 → x_link τ x w = x_link σ x w
theorem Keep.rf (σ : XS) : Keep σ σ := ⟨⟨rfl, rfl, rfl, rfl⟩, ⟨rfl, rfl, rfl⟩, fun _ _ => rfl, fun _ _ _ _ => rfl⟩
theorem Keep.tr {a b c : XS} (h : Keep a b) (k : Keep b c) : Keep a c := by
  obtain ⟨⟨h1, h2, h3, h4⟩, ⟨h5, h6, h7⟩, h8, h9⟩ := h
  obtain ⟨⟨k1, k2, k3, k4⟩, ⟨k5, k6, k7⟩, k8, k9⟩ := k
  exact ⟨⟨k1.trans h1, k2.trans h2, k3.trans h3, k4.trans h4⟩, ⟨k5.trans h5, k6.trans h6, k7.trans h7⟩, fun x hx => (k8 x hx).trans (h8 x hx), fun x w hx hw => (k9 x w hx hw).trans (h9 x w hx hw)⟩
theorem keep_bring (σ : XS) {j : Nat} (hj : j < 12) : Keep σ (x_bring σ j) := by
  refine ⟨?_, ?_, fun x hx => wv_bring hj hx, fun x w hx hw => link_bring hj hx hw⟩
  · by_cases c : btI (σ.1 11) j = 0
    · rw [bring_c c]; exact ⟨rfl, rfl, rfl, rfl⟩
    · rw [bring_n c]; exact ⟨rfl, rfl, rfl, rfl⟩
  · by_cases c : btI (σ.1 11) j = 0
    · rw [bring_c c]; exact ⟨rfl, rfl, rfl⟩
    · rw [bring_n c]; exact ⟨rfl, rfl, rfl⟩
theorem sim_keep {π : Nat → Nat} {A : Nat → Prop} {σ τ μ : XS} (h : Sim π A σ μ) (ok : okX τ) (k : Keep σ τ) : Sim π A τ μ := by
  obtain ⟨h1, h2, h3, h4, h5, h6, h7, h8, h9, h10, h11, h12, h13, h14⟩ := h
  obtain ⟨⟨k1, k2, k3, k4⟩, ⟨k5, k6, k7⟩, k8, k9⟩ := k
  refine ⟨ok, h2, ⟨by rw [k2]; exact h3.1, by rw [k3]; exact h3.2⟩, h4, h5, h6, ⟨by rw [k4]; exact h7.1, by rw [k1]; exact h7.2⟩, fun q hq => by rw [k7]; exact h8 q hq, h9, h10, fun i hi a => ?_, fun i hi a => ?_, fun y hy => ?_, fun i hi a => ?_⟩
  · have hp := h9 i hi (Or.inl a)
    refine ⟨by rw [k8 _ hp]; exact (h11 i hi a).1, fun w hw => by rw [k9 _ _ hp hw]; exact (h11 i hi a).2 w hw⟩
  · rw [k5, k6]; exact h12 i hi a
  · rw [k2]; exact h13 y hy
  · rw [k3]; exact h14 i hi a
theorem sim_hput {π : Nat → Nat} {A : Nat → Prop} {σ μ : XS} (h : Sim π A σ μ) (k : Nat) {v u : Int32} (ov : okv v) (ou : okv u) (e : v = im π u) (a : ∀ j, j < 12 → u = nI j → A j) : Sim π A (setA σ 16 k v) (setA μ 3 k u) := by
  obtain ⟨h1, h2, h3, h4, h5, h6, h7, h8, h9, h10, h11, h12, h13, h14⟩ := h
  have hc : ∀ i, Cm (setA μ 3 k u) i ↔ Cm μ i := Cm_eq rfl rfl
  refine ⟨⟨h1.1, h1.2.1, h1.2.2.1, ok_up h1.2.2.2.1 ov, h1.2.2.2.2⟩, ⟨h2.1, h2.2.1, ok_up h2.2.2.1 ou, h2.2.2.2⟩, h3, h4, fun q j hq hj hz => ?_, h6, h7, fun q hq => ?_, fun i hi z => h9 i hi (by rwa [hc i] at z), fun i j hi hj z1 z2 => h10 i j hi hj (by rwa [hc i] at z1) (by rwa [hc j] at z2), h11, fun i hi z => h12 i hi ((hc i).mp z), fun y hy => ?_, fun i hi z => h14 i hi (by rwa [hc i] at z)⟩
  · have hz : upd (μ.2 3) k u q = nI j := hz
    unfold upd at hz
    by_cases c : q = k
    · rw [if_pos c] at hz; exact a j hj hz
    · rw [if_neg c] at hz; exact h5 q j hq hj hz
  · show upd (σ.2 16) k v q = im π (upd (μ.2 3) k u q)
    unfold upd
    by_cases c : q = k
    · rw [if_pos c, if_pos c]; exact e
    · rw [if_neg c, if_neg c]; exact h8 q hq
  · refine (h13 y hy).trans ⟨fun ⟨i, hi, z1, z2⟩ => ⟨i, hi, (hc i).mpr z1, z2⟩, fun ⟨i, hi, z1, z2⟩ => ⟨i, hi, (hc i).mp z1, z2⟩⟩
theorem sim_root {π : Nat → Nat} {A : Nat → Prop} {σ μ : XS} (h : Sim π A σ μ) {v u : Int32} (ov : okv v) (ou : okv u) (e : v = im π u) (a : ∀ j, j < 12 → u = nI j → A j) : Sim π A (setF σ 15 v) (setF μ 2 u) := by
  obtain ⟨h1, h2, h3, h4, h5, h6, h7, h8, h9, h10, h11, h12, h13, h14⟩ := h
  have hc : ∀ i, Cm (setF μ 2 u) i ↔ Cm μ i := Cm_eq rfl rfl
  refine ⟨⟨h1.1, h1.2.1, h1.2.2.1, h1.2.2.2.1, h1.2.2.2.2.1, ov, h1.2.2.2.2.2.2⟩, ⟨h2.1, h2.2.1, h2.2.2.1, ou, h2.2.2.2.2⟩, h3, a, h5, h6, ⟨e, h7.2⟩, h8, fun i hi z => h9 i hi (by rwa [hc i] at z), fun i j hi hj z1 z2 => h10 i j hi hj (by rwa [hc i] at z1) (by rwa [hc j] at z2), h11, fun i hi z => h12 i hi ((hc i).mp z), fun y hy => ?_, fun i hi z => h14 i hi (by rwa [hc i] at z)⟩
  exact (h13 y hy).trans ⟨fun ⟨i, hi, z1, z2⟩ => ⟨i, hi, (hc i).mpr z1, z2⟩, fun ⟨i, hi, z1, z2⟩ => ⟨i, hi, (hc i).mp z1, z2⟩⟩
theorem sim_setv {π : Nat → Nat} {A : Nat → Prop} {σ μ : XS} (h : Sim π A σ μ) {j : Nat} (hj : j < 12) (a : A j) (ld : ¬ btI (σ.1 11) (π j) = 0) (v : Int32) : Sim π A (setA σ 12 (π j) v) (setA μ 0 j v) := by
  obtain ⟨h1, h2, h3, h4, h5, h6, h7, h8, h9, h10, h11, h12, h13, h14⟩ := h
  have hc : ∀ i, Cm (setA μ 0 j v) i ↔ Cm μ i := Cm_eq rfl rfl
  refine ⟨h1, h2, h3, h4, h5, h6, h7, h8, fun i hi z => h9 i hi (by rwa [hc i] at z), fun i j hi hj z1 z2 => h10 i j hi hj (by rwa [hc i] at z1) (by rwa [hc j] at z2), fun i hi z => ⟨?_, (h11 i hi z).2⟩, fun i hi z => h12 i hi ((hc i).mp z), fun y hy => ?_, fun i hi z => h14 i hi (by rwa [hc i] at z)⟩
  · show (if btI (σ.1 11) (π i) = 0 then σ.2 0 (π i) else upd (σ.2 12) (π j) v (π i)) = upd (μ.2 0) j v i
    have hw := (h11 i hi z).1
    unfold wv at hw
    by_cases c : i = j
    · subst c
      rw [if_neg ld, pk_us, pk_us]
    · have hne : π i ≠ π j := fun e => c (h10 i j hi hj (Or.inl z) (Or.inl a) e)
      rw [pk_un hne, pk_un c]
      exact hw
  · exact (h13 y hy).trans ⟨fun ⟨i, hi, z1, z2⟩ => ⟨i, hi, (hc i).mpr z1, z2⟩, fun ⟨i, hi, z1, z2⟩ => ⟨i, hi, (hc i).mp z1, z2⟩⟩
theorem sim_link {π : Nat → Nat} {A : Nat → Prop} {σ μ : XS} (h : Sim π A σ μ) {j w : Nat} (hj : j < 12) (hw : w < 2) (a : A j) (ld : ¬ btI (σ.1 11) (π j) = 0) {v u : Int32} (ov : okv v) (ou : okv u) (e : v = im π u) (au : ∀ j, j < 12 → u = nI j → A j) : Sim π A (setA σ 13 (2 * π j + w) v) (setA μ 1 (2 * j + w) u) := by
  obtain ⟨h1, h2, h3, h4, h5, h6, h7, h8, h9, h10, h11, h12, h13, h14⟩ := h
  have hc : ∀ i, Cm (setA μ 1 (2 * j + w) u) i ↔ Cm μ i := Cm_eq rfl rfl
  refine ⟨⟨h1.1, ok_up h1.2.1 ov, h1.2.2⟩, ⟨ok_up h2.1 ou, h2.2⟩, h3, h4, h5, fun x y hx hy z q => ?_, h7, h8, fun i hi z => h9 i hi (by rwa [hc i] at z), fun i j hi hj z1 z2 => h10 i j hi hj (by rwa [hc i] at z1) (by rwa [hc j] at z2), fun i hi z => ⟨(h11 i hi z).1, fun w' hw' => ?_⟩, fun i hi z => h12 i hi ((hc i).mp z), fun y hy => ?_, fun i hi z => h14 i hi (by rwa [hc i] at z)⟩
  · have key : ∀ w', w' < 2 → upd (μ.2 1) (2 * j + w) u (2 * x + w') = nI y → A y := by
      intro w' hw' q
      unfold upd at q
      by_cases c : 2 * x + w' = 2 * j + w
      · rw [if_pos c] at q; exact au y hy q
      · rw [if_neg c] at q
        refine h6 x y hx hy z ?_
        rcases (show w' = 0 ∨ w' = 1 by omega) with rfl | rfl
        · exact Or.inl q
        · exact Or.inr q
    rcases q with q | q
    · exact key 0 (by decide) q
    · exact key 1 (by decide) q
  · show (if btI (σ.1 11) (π i) = 0 then σ.2 1 (2 * π i + w') else upd (σ.2 13) (2 * π j + w) v (2 * π i + w')) = im π (upd (μ.2 1) (2 * j + w) u (2 * i + w'))
    have hl := (h11 i hi z).2 w' hw'
    unfold x_link at hl
    by_cases c : i = j
    · subst c
      rw [if_neg ld]
      rw [if_neg ld] at hl
      by_cases c2 : w' = w
      · subst c2
        rw [pk_us, pk_us]
        exact e
      · rw [pk_un (by omega), pk_un (by omega)]
        exact hl
    · have hne : π i ≠ π j := fun e => c (h10 i j hi hj (Or.inl z) (Or.inl a) e)
      rw [pk_un (by omega), pk_un (by omega)]
      exact hl
  · exact (h13 y hy).trans ⟨fun ⟨i, hi, z1, z2⟩ => ⟨i, hi, (hc i).mpr z1, z2⟩, fun ⟨i, hi, z1, z2⟩ => ⟨i, hi, (hc i).mp z1, z2⟩⟩
end
section
set_option maxRecDepth 100000
/-! the plain calls keep the two alike, and answer alike -/
theorem Sim.rng {π : Nat → Nat} {A : Nat → Prop} {σ μ : XS} (h : Sim π A σ μ) {v : Int32} (a : ∀ j, j < 12 → v = nI j → A j) : ∀ j, j < 12 → v = nI j → π j < 12 := fun j hj e => h.2.2.2.2.2.2.2.2.1 j hj (Or.inl (a j hj e))
theorem Sim.hA {π : Nat → Nat} {A : Nat → Prop} {σ μ : XS} (h : Sim π A σ μ) {k : Nat} (hk : k < 4) : ∀ j, j < 12 → μ.2 3 k = nI j → A j := fun j hj e => h.2.2.2.2.1 k j hk hj e
theorem Sim.lA {π : Nat → Nat} {A : Nat → Prop} {σ μ : XS} (h : Sim π A σ μ) {i w : Nat} (hi : i < 12) (hw : w < 2) (a : A i) : ∀ j, j < 12 → μ.2 1 (2 * i + w) = nI j → A j := by
  intro j hj e
  refine h.2.2.2.2.2.1 i j hi hj a ?_
  rcases (show w = 0 ∨ w = 1 by omega) with rfl | rfl
  · exact Or.inl e
  · exact Or.inr e
theorem op_getRoot {σ μ : XS} (h : SimR σ μ) (p : Int32) : (x_getRoot σ p).1 = (m_getRoot μ p).1 ∧ SimR (x_getRoot σ p).2 (m_getRoot μ p).2 := by
  obtain ⟨π, A, h⟩ := h
  by_cases c : x_isH p = 0
  · simp only [x_getRoot, m_getRoot, if_pos c]
    exact ⟨trivial, π, A, h⟩
  · simp only [x_getRoot, m_getRoot, if_neg c]
    obtain ⟨k, hk, rfl⟩ := isH_in c
    rw [nI_clamp (by omega)]
    have ou := h.2.1.2.2.2.1
    have e := h.2.2.2.2.2.2.1.1
    refine ⟨?_, π, A, sim_hput h k h.1.2.2.2.2.2.1 ou e h.2.2.2.1⟩
    rw [e]
    exact im_leads ou (h.rng h.2.2.2.1)
theorem op_setRoot {σ μ : XS} (h : SimR σ μ) (p : Int32) : (x_setRoot σ p).1 = (m_setRoot μ p).1 ∧ SimR (x_setRoot σ p).2 (m_setRoot μ p).2 := by
  obtain ⟨π, A, h⟩ := h
  by_cases c : x_isH p = 0
  · simp only [x_setRoot, m_setRoot, if_pos c]
    exact ⟨trivial, π, A, h⟩
  · simp only [x_setRoot, m_setRoot, if_neg c]
    obtain ⟨k, hk, rfl⟩ := isH_in c
    rw [nI_clamp (by omega)]
    have ou := h.2.1.2.2.1 k
    have e := h.2.2.2.2.2.2.2.1 k hk
    refine ⟨?_, π, A, sim_root h (h.1.2.2.2.1 k) ou e (h.hA hk)⟩
    rw [e]
    exact im_leads ou (h.rng (h.hA hk))
theorem op_drop {σ μ : XS} (h : SimR σ μ) (p : Int32) : (x_drop σ p).1 = (m_drop μ p).1 ∧ SimR (x_drop σ p).2 (m_drop μ p).2 := by
  obtain ⟨π, A, h⟩ := h
  by_cases c : x_isH p = 0
  · simp only [x_drop, m_drop, if_pos c]
    exact ⟨trivial, π, A, h⟩
  · simp only [x_drop, m_drop, if_neg c]
    obtain ⟨k, hk, rfl⟩ := isH_in c
    rw [nI_clamp (by omega)]
    have ou := h.2.1.2.2.1 k
    have e := h.2.2.2.2.2.2.2.1 k hk
    refine ⟨?_, π, A, sim_hput h k okv_m1 okv_m1 (im_m1 π).symm (fun j hj q => absurd q.symm (nI_nm1 (by omega)))⟩
    rw [e]
    exact im_leads ou (h.rng (h.hA hk))
theorem op_follow {σ μ : XS} (h : SimR σ μ) (p q r : Int32) : (x_follow σ p q r).1 = (m_follow μ p q r).1 ∧ SimR (x_follow σ p q r).2 (m_follow μ p q r).2 := by
  obtain ⟨π, A, h⟩ := h
  by_cases c1 : x_isH p = 0
  · simp only [x_follow, m_follow, if_pos c1]
    exact ⟨trivial, π, A, h⟩
  by_cases c2 : x_isH q = 0
  · simp only [x_follow, m_follow, if_neg c1, if_pos c2]
    exact ⟨trivial, π, A, h⟩
  by_cases c3 : r < 0
  · simp only [x_follow, m_follow, if_neg c1, if_neg c2, if_pos c3]
    exact ⟨trivial, π, A, h⟩
  by_cases c4 : r ≤ 1
  · simp only [x_follow, m_follow, if_neg c1, if_neg c2, if_neg c3, if_pos c4]
    obtain ⟨k, hk, rfl⟩ := isH_in c1
    obtain ⟨g, hg, rfl⟩ := isH_in c2
    obtain ⟨w, hw, rfl⟩ := w_in c3 c4
    rw [nI_clamp (show k < 2 ^ 31 by omega), nI_clamp (show g < 2 ^ 31 by omega), nI_clamp (show w < 2 ^ 31 by omega)]
    have ou := h.2.1.2.2.1 g
    have e := h.2.2.2.2.2.2.2.1 g hg
    have hn := im_nn ou (h.rng (h.hA hg))
    by_cases c5 : 0 ≤ μ.2 3 g
    · rw [if_pos c5, if_pos (show 0 ≤ σ.2 16 g by rw [e]; exact hn.mpr c5)]
      obtain ⟨j, hj, ej⟩ := okv_nn ou c5
      have aj := h.hA hg j hj ej
      have hp := h.2.2.2.2.2.2.2.2.1 j hj (Or.inl aj)
      rw [e, ej, im_n π hj, nI_clamp (show π j < 2 ^ 31 by omega), nI_clamp (show j < 2 ^ 31 by omega)]
      simp only [x_fol, m_fol]
      have hl := (h.2.2.2.2.2.2.2.2.2.2.1 j hj aj).2 w hw
      have ol := h.2.1.1 (2 * j + w)
      have ha := h.lA hj hw aj
      rw [bring_ml hp hw, hl]
      refine ⟨im_leads ol (h.rng ha), π, A, ?_⟩
      refine sim_hput (sim_keep h (okX_bring _ h.1) (keep_bring σ hp)) k ?_ ol rfl ha
      rw [← hl, ← bring_ml hp hw]
      exact (okX_bring (π j) h.1).2.1 _
    · rw [if_neg c5, if_neg (show ¬ 0 ≤ σ.2 16 g by rw [e]; exact fun z => c5 (hn.mp z))]
      exact ⟨rfl, π, A, h⟩
  · simp only [x_follow, m_follow, if_neg c1, if_neg c2, if_neg c3, if_neg c4]
    exact ⟨trivial, π, A, h⟩
theorem op_link {σ μ : XS} (h : SimR σ μ) (p r q : Int32) : (x_linkM σ p r q).1 = (m_linkM μ p r q).1 ∧ SimR (x_linkM σ p r q).2 (m_linkM μ p r q).2 := by
  obtain ⟨π, A, h⟩ := h
  by_cases c1 : x_isH p = 0
  · simp only [x_linkM, m_linkM, if_pos c1]
    exact ⟨trivial, π, A, h⟩
  by_cases c2 : x_isH q = 0
  · simp only [x_linkM, m_linkM, if_neg c1, if_pos c2]
    exact ⟨trivial, π, A, h⟩
  by_cases c3 : r < 0
  · simp only [x_linkM, m_linkM, if_neg c1, if_neg c2, if_pos c3]
    exact ⟨trivial, π, A, h⟩
  by_cases c4 : r ≤ 1
  · simp only [x_linkM, m_linkM, if_neg c1, if_neg c2, if_neg c3, if_pos c4]
    obtain ⟨k, hk, rfl⟩ := isH_in c1
    obtain ⟨g, hg, rfl⟩ := isH_in c2
    obtain ⟨w, hw, rfl⟩ := w_in c3 c4
    rw [nI_clamp (show k < 2 ^ 31 by omega), nI_clamp (show g < 2 ^ 31 by omega), nI_clamp (show w < 2 ^ 31 by omega)]
    have ou := h.2.1.2.2.1 k
    have e := h.2.2.2.2.2.2.2.1 k hk
    have hn := im_nn ou (h.rng (h.hA hk))
    by_cases c5 : 0 ≤ μ.2 3 k
    · rw [if_pos c5, if_pos (show 0 ≤ σ.2 16 k by rw [e]; exact hn.mpr c5)]
      obtain ⟨j, hj, ej⟩ := okv_nn ou c5
      have aj := h.hA hk j hj ej
      have hp := h.2.2.2.2.2.2.2.2.1 j hj (Or.inl aj)
      rw [e, ej, im_n π hj, nI_clamp (show π j < 2 ^ 31 by omega), nI_clamp (show j < 2 ^ 31 by omega)]
      simp only [x_lnk, m_lnk]
      have hk1 := keep_bring σ hp
      have h' := sim_keep h (okX_bring _ h.1) hk1
      have eg := h'.2.2.2.2.2.2.2.1 g hg
      have og := h.2.1.2.2.1 g
      refine ⟨?_, π, A, sim_link h' hj hw aj (bring_ld hp) (h'.1.2.2.2.1 g) og eg (h.hA hg)⟩
      rw [eg]
      exact im_leads og (h.rng (h.hA hg))
    · rw [if_neg c5, if_neg (show ¬ 0 ≤ σ.2 16 k by rw [e]; exact fun z => c5 (hn.mp z))]
      exact ⟨rfl, π, A, h⟩
  · simp only [x_linkM, m_linkM, if_neg c1, if_neg c2, if_neg c3, if_neg c4]
    exact ⟨trivial, π, A, h⟩
theorem op_value {σ μ : XS} (h : SimR σ μ) (p : Int32) : (x_value σ p).1 = m_value μ p ∧ SimR (x_value σ p).2 μ := by
  obtain ⟨π, A, h⟩ := h
  by_cases c : x_isH p = 0
  · simp only [x_value, m_value, if_pos c]
    exact ⟨trivial, π, A, h⟩
  · simp only [x_value, m_value, if_neg c]
    obtain ⟨k, hk, rfl⟩ := isH_in c
    rw [nI_clamp (show k < 2 ^ 31 by omega)]
    have ou := h.2.1.2.2.1 k
    have e := h.2.2.2.2.2.2.2.1 k hk
    have hn := im_nn ou (h.rng (h.hA hk))
    by_cases c5 : 0 ≤ μ.2 3 k
    · obtain ⟨j, hj, ej⟩ := okv_nn ou c5
      rw [if_pos (show 0 ≤ σ.2 16 k by rw [e]; exact hn.mpr c5), if_neg (show ¬ μ.2 3 k < 0 by rw [ej]; exact nI_nneg (by omega))]
      have aj := h.hA hk j hj ej
      have hp := h.2.2.2.2.2.2.2.2.1 j hj (Or.inl aj)
      rw [e, ej, im_n π hj, nI_clamp (show π j < 2 ^ 31 by omega), nI_clamp (show j < 2 ^ 31 by omega)]
      simp only [x_val]
      refine ⟨?_, π, A, sim_keep h (okX_bring _ h.1) (keep_bring σ hp)⟩
      rw [bring_mv hp]
      exact (h.2.2.2.2.2.2.2.2.2.2.1 j hj aj).1
    · rw [if_neg (show ¬ 0 ≤ σ.2 16 k by rw [e]; exact fun z => c5 (hn.mp z))]
      have : μ.2 3 k < 0 := Int32.not_le.mp c5
      rw [if_pos this]
      exact ⟨rfl, π, A, h⟩
theorem op_setValue {σ μ : XS} (h : SimR σ μ) (p v : Int32) : (x_setValue σ p v).1 = (m_setValue μ p v).1 ∧ SimR (x_setValue σ p v).2 (m_setValue μ p v).2 := by
  obtain ⟨π, A, h⟩ := h
  by_cases c : x_isH p = 0
  · simp only [x_setValue, m_setValue, if_pos c]
    exact ⟨trivial, π, A, h⟩
  · simp only [x_setValue, m_setValue, if_neg c]
    obtain ⟨k, hk, rfl⟩ := isH_in c
    rw [nI_clamp (show k < 2 ^ 31 by omega)]
    have ou := h.2.1.2.2.1 k
    have e := h.2.2.2.2.2.2.2.1 k hk
    have hn := im_nn ou (h.rng (h.hA hk))
    by_cases c5 : 0 ≤ μ.2 3 k
    · obtain ⟨j, hj, ej⟩ := okv_nn ou c5
      rw [if_pos (show 0 ≤ σ.2 16 k by rw [e]; exact hn.mpr c5), if_pos c5]
      have aj := h.hA hk j hj ej
      have hp := h.2.2.2.2.2.2.2.2.1 j hj (Or.inl aj)
      rw [e, ej, im_n π hj, nI_clamp (show π j < 2 ^ 31 by omega), nI_clamp (show j < 2 ^ 31 by omega)]
      exact ⟨rfl, π, A, sim_setv (sim_keep h (okX_bring _ h.1) (keep_bring σ hp)) hj aj (bring_ld hp) v⟩
    · rw [if_neg (show ¬ 0 ≤ σ.2 16 k by rw [e]; exact fun z => c5 (hn.mp z)), if_neg c5]
      exact ⟨rfl, π, A, h⟩
theorem op_same {σ μ : XS} (h : SimR σ μ) (p q : Int32) : sameH (σ.2 16) p q = sameH (μ.2 3) p q := by
  obtain ⟨π, A, h⟩ := h
  unfold sameH
  by_cases c1 : x_isH p = 0
  · rw [if_pos c1, if_pos c1]
  by_cases c2 : x_isH q = 0
  · rw [if_neg c1, if_neg c1, if_pos c2, if_pos c2]
  rw [if_neg c1, if_neg c1, if_neg c2, if_neg c2]
  obtain ⟨k, hk, rfl⟩ := isH_in c1
  obtain ⟨g, hg, rfl⟩ := isH_in c2
  rw [nI_clamp (show k < 2 ^ 31 by omega), nI_clamp (show g < 2 ^ 31 by omega)]
  rw [h.2.2.2.2.2.2.2.1 k hk, h.2.2.2.2.2.2.2.1 g hg]
  have ok := h.2.1.2.2.1 k
  have og := h.2.1.2.2.1 g
  have hn := im_neg ok (h.rng (h.hA hk))
  by_cases c3 : μ.2 3 k < 0
  · rw [if_pos c3, if_pos (hn.mpr c3)]
  · rw [if_neg c3, if_neg (fun z => c3 (hn.mp z))]
    have hi := im_inj (S := A) (π := π) (fun i hi a => h.2.2.2.2.2.2.2.2.1 i hi (Or.inl a)) (fun i j hi hj a b => h.2.2.2.2.2.2.2.2.2.1 i j hi hj (Or.inl a) (Or.inl b)) ok og (h.hA hk) (h.hA hg)
    by_cases c4 : μ.2 3 k = μ.2 3 g
    · rw [if_pos c4, if_pos (hi.mpr c4)]
    · rw [if_neg c4, if_neg (fun z => c4 (hi.mp z))]
end
section
set_option maxRecDepth 100000
/-! what is reached, counted and compared, on both sides -/
theorem okL_x {σ : XS} (h : okX σ) : okL (x_link σ) := by
  intro x w
  unfold x_link
  by_cases c : btI (σ.1 11) x = 0
  · rw [if_pos c]; exact h.1 _
  · rw [if_neg c]; exact h.2.1 _
theorem mlk1 (μ : XS) : m_lk μ 1 = μ.2 1 := funext fun k => by
  unfold m_lk
  rw [if_neg (by decide)]
theorem mlk0 (μ : XS) : m_lk μ 0 = μ.2 5 := funext fun k => by
  unfold m_lk
  rw [if_pos rfl]
theorem okL_2 {f : Nat → Int32} (h : ∀ k, okv (f k)) : okL (l2 f) := fun x w => h _
theorem spread1_is {μ : XS} (h : okM μ) {s : Int32} (hs : sm s) : isCl (l2 (μ.2 1)) s (m_spread μ s 1) := by
  have := m_spread_is (σ := μ) (w := 1) (by rw [mlk1]; exact h.1) hs
  rwa [mlk1] at this
theorem comm_is {μ : XS} (h : okM μ) : isCl (l2 (μ.2 5)) (bitO (μ.1 6)) (m_comm μ) := by
  have := m_spread_is (σ := μ) (w := 0) (by rw [mlk0]; exact h.2.1) (sm_bitO h.2.2.2.2)
  rwa [mlk0] at this
theorem reach_is {μ : XS} (h : okM μ) : isCl (l2 (μ.2 1)) (bitO (μ.1 2)) (m_reach μ) := spread1_is h (sm_bitO h.2.2.2.1)
theorem Sim.oC {π : Nat → Nat} {A : Nat → Prop} {σ μ : XS} (h : Sim π A σ μ) {i w : Nat} (hi : i < 12) (hw : w < 2) (a : Cm μ i) : ∀ j, j < 12 → μ.2 5 (2 * i + w) = nI j → Cm μ j := by
  intro j hj e
  refine (comm_is h.2.1).2.2.1 i j hi hj a ?_
  rcases (show w = 0 ∨ w = 1 by omega) with rfl | rfl
  · exact Or.inl e
  · exact Or.inr e
theorem Sim.rC {π : Nat → Nat} {A : Nat → Prop} {σ μ : XS} (h : Sim π A σ μ) : ∀ j, j < 12 → μ.1 6 = nI j → Cm μ j := fun j hj e => (comm_is h.2.1).2.1 j hj ((bitO_bt h.2.1.2.2.2.2 (by omega)).mpr e)
theorem bitO_im {π : Nat → Nat} {v u : Int32} (ov : okv v) (ou : okv u) (e : v = im π u) (hr : ∀ j, j < 12 → u = nI j → π j < 12) {y : Nat} (hy : y < 12) : bt (bitO v) y = true ↔ ∃ i, i < 12 ∧ bt (bitO u) i = true ∧ π i = y := by
  rw [bitO_bt ov (by omega), e]
  constructor
  · intro h
    obtain ⟨j, hj, e1, e2⟩ := im_eq ou hy h hr
    exact ⟨j, hj, (bitO_bt ou (by omega)).mpr e1, e2⟩
  · rintro ⟨i, hi, h, rfl⟩
    rw [(bitO_bt ou (by omega)).mp h, im_n π hi]
theorem sim_clo {π : Nat → Nat} {A : Nat → Prop} {σ μ : XS} (h : Sim π A σ μ) {s t : Int32} (hs : sm s) (ht : sm t) (hA : ∀ i, i < 12 → bt s i = true → A i) (hst : ∀ y, y < 12 → (bt t y = true ↔ ∃ i, i < 12 ∧ bt s i = true ∧ π i = y)) : (∀ i, i < 12 → bt (m_spread μ s 1) i = true → A i) ∧ ∀ y, y < 12 → (bt (x_clo σ t) y = true ↔ ∃ i, i < 12 ∧ bt (m_spread μ s 1) i = true ∧ π i = y) := by
  have hm := spread1_is h.2.1 hs
  have ha : ∀ i, i < 12 → bt (m_spread μ s 1) i = true → A i := hm.2.2.2 A hA h.2.2.2.2.2.1
  refine ⟨ha, cl_im (okL_2 h.2.1.1) hm (x_clo_is (okL_x h.1) ht) hst (fun i hi q => h.2.2.2.2.2.2.2.2.1 i hi (Or.inl (ha i hi q))) (fun i hi q => ?_)⟩
  have := (h.2.2.2.2.2.2.2.2.2.2.1 i hi (ha i hi q)).2
  exact ⟨this 0 (by decide), this 1 (by decide)⟩
theorem sim_reach {π : Nat → Nat} {A : Nat → Prop} {σ μ : XS} (h : Sim π A σ μ) : (∀ i, i < 12 → bt (m_reach μ) i = true → A i) ∧ ∀ y, y < 12 → (bt (x_reachS σ) y = true ↔ ∃ i, i < 12 ∧ bt (m_reach μ) i = true ∧ π i = y) := by
  have ou := h.2.1.2.2.2.1
  have ov := h.1.2.2.2.2.2.1
  exact sim_clo h (sm_bitO ou) (sm_bitO ov) (fun i hi q => h.2.2.2.1 i hi ((bitO_bt ou (by omega)).mp q)) (fun y hy => bitO_im ov ou h.2.2.2.2.2.2.1.1 (h.rng h.2.2.2.1) hy)
theorem sim_ct {π : Nat → Nat} {A : Nat → Prop} {σ μ : XS} (h : Sim π A σ μ) {p : Nat → Bool} {q : Nat → Bool} (hp : ∀ i, i < 12 → p i = true → A i ∨ Cm μ i) (hq : ∀ y, y < 12 → (q y = true ↔ ∃ i, i < 12 ∧ p i = true ∧ π i = y)) : fb_ct q 12 = fb_ct p 12 :=
  ct_im p π (fun i hi z => h.2.2.2.2.2.2.2.2.1 i hi (hp i hi z)) (fun i j hi hj z1 z2 e => h.2.2.2.2.2.2.2.2.2.1 i j hi hj (hp i hi z1) (hp j hj z2) e) 12 (by decide) q hq
theorem op_reachable {σ μ : XS} (h : SimR σ μ) : x_reachable σ = m_reachable μ := by
  obtain ⟨π, A, h⟩ := h
  unfold x_reachable m_reachable
  rw [x_bits_ct, m_size_ct]
  obtain ⟨h1, h2⟩ := sim_reach h
  exact congrArg nI (sim_ct h (fun i hi z => Or.inl (h1 i hi z)) h2)
/-- the committed set -/
theorem Sim.cm {π : Nat → Nat} {A : Nat → Prop} {σ μ : XS} (h : Sim π A σ μ) {i : Nat} (hi : i < 12) (a : A i ∨ Cm μ i) : bt (σ.1 3) (π i) = true ↔ Cm μ i := by
  have hp := h.2.2.2.2.2.2.2.2.1 i hi a
  rw [h.2.2.2.2.2.2.2.2.2.2.2.2.1 (π i) hp]
  constructor
  · rintro ⟨j, hj, c, e⟩
    rw [← h.2.2.2.2.2.2.2.2.2.1 j i hj hi (Or.inr c) a e]
    exact c
  · intro c
    exact ⟨i, hi, c, rfl⟩
def sameXD (σ : XS) (y : Nat) : Prop := wv σ y = σ.2 0 y ∧ x_link σ y 0 = σ.2 1 (2 * y) ∧ x_link σ y 1 = σ.2 1 (2 * y + 1)
theorem x_diff_E {σ : XS} {y : Nat} (hy : y < 12) : x_diff σ y = 0 ↔ bt (σ.1 3) y = true ∧ sameXD σ y := by
  unfold x_diff sameXD wv x_link
  by_cases c1 : btI (σ.1 3) y = 0
  · rw [if_pos c1]
    have := (bi0 (by omega)).mp c1
    rw [this]
    constructor
    · intro h; exact absurd h (by decide)
    · rintro ⟨h, -⟩; cases h
  · rw [if_neg c1]
    have := (bi0' (by omega)).mp c1
    rw [this]
    by_cases c2 : btI (σ.1 11) y = 0
    · rw [if_pos c2, if_pos c2, if_pos c2, if_pos c2]
      exact ⟨fun _ => ⟨rfl, rfl, rfl, rfl⟩, fun _ => rfl⟩
    · rw [if_neg c2, if_neg c2, if_neg c2, if_neg c2]
      by_cases c3 : σ.2 12 y = σ.2 0 y
      · rw [if_pos c3]
        by_cases c4 : σ.2 13 (2 * y) = σ.2 1 (2 * y)
        · rw [if_pos c4]
          by_cases c5 : σ.2 13 (2 * y + 1) = σ.2 1 (2 * y + 1)
          · rw [if_pos c5]
            exact ⟨fun _ => ⟨rfl, c3, c4, c5⟩, fun _ => rfl⟩
          · rw [if_neg c5]
            exact ⟨fun h => absurd h (by decide), fun h => absurd h.2.2.2 c5⟩
        · rw [if_neg c4]
          exact ⟨fun h => absurd h (by decide), fun h => absurd h.2.2.1 c4⟩
      · rw [if_neg c3]
        exact ⟨fun h => absurd h (by decide), fun h => absurd h.2.1 c3⟩
theorem m_eq_E {μ : XS} {i : Nat} : ¬ m_eq μ i = 0 ↔ μ.2 0 i = μ.2 4 i ∧ μ.2 1 (2 * i) = μ.2 5 (2 * i) ∧ μ.2 1 (2 * i + 1) = μ.2 5 (2 * i + 1) := by
  unfold m_eq
  by_cases c3 : μ.2 0 i = μ.2 4 i
  · rw [if_pos c3]
    by_cases c4 : μ.2 1 (2 * i) = μ.2 5 (2 * i)
    · rw [if_pos c4]
      by_cases c5 : μ.2 1 (2 * i + 1) = μ.2 5 (2 * i + 1)
      · rw [if_pos c5]
        exact ⟨fun _ => ⟨c3, c4, c5⟩, fun _ => by decide⟩
      · rw [if_neg c5]
        exact ⟨fun h => absurd rfl h, fun h => absurd h.2.2 c5⟩
    · rw [if_neg c4]
      exact ⟨fun h => absurd rfl h, fun h => absurd h.2.1 c4⟩
  · rw [if_neg c3]
    exact ⟨fun h => absurd rfl h, fun h => absurd h.1 c3⟩
theorem sim_diff {π : Nat → Nat} {A : Nat → Prop} {σ μ : XS} (h : Sim π A σ μ) {i : Nat} (hi : i < 12) (a : A i) : x_diff σ (π i) = 0 ↔ Cm μ i ∧ ¬ m_eq μ i = 0 := by
  have hp := h.2.2.2.2.2.2.2.2.1 i hi (Or.inl a)
  rw [x_diff_E hp, h.cm hi (Or.inl a), m_eq_E]
  refine and_congr_right fun c => ?_
  obtain ⟨w1, w2⟩ := h.2.2.2.2.2.2.2.2.2.2.1 i hi a
  obtain ⟨d1, d2⟩ := h.2.2.2.2.2.2.2.2.2.2.2.1 i hi c
  have hj : ∀ w, w < 2 → (im π (μ.2 1 (2 * i + w)) = im π (μ.2 5 (2 * i + w)) ↔ μ.2 1 (2 * i + w) = μ.2 5 (2 * i + w)) := fun w hw =>
    im_inj (S := fun j => A j ∨ Cm μ j) (π := π) h.2.2.2.2.2.2.2.2.1 h.2.2.2.2.2.2.2.2.2.1 (h.2.1.1 _) (h.2.1.2.1 _) (fun j hj e => Or.inl (h.lA hi hw a j hj e)) (fun j hj e => Or.inr (h.oC hi hw c j hj e))
  have e0 : x_link σ (π i) 0 = σ.2 1 (2 * π i) ↔ μ.2 1 (2 * i) = μ.2 5 (2 * i) := by
    rw [w2 0 (by decide), show σ.2 1 (2 * π i) = _ from d2 0 (by decide)]
    exact hj 0 (by decide)
  have e1 : x_link σ (π i) 1 = σ.2 1 (2 * π i + 1) ↔ μ.2 1 (2 * i + 1) = μ.2 5 (2 * i + 1) := by
    rw [w2 1 (by decide), d2 1 (by decide)]
    exact hj 1 (by decide)
  unfold sameXD
  rw [w1, d1, e0, e1]
theorem chgL_bt (σ : XS) (s : Int32) : ∀ (n i : Nat) (ch : Int32), i + n = 12 → sm ch → sm (chgL σ s n i ch) ∧ ∀ y, y < 12 → (bt (chgL σ s n i ch) y = true ↔ bt ch y = true ∨ (i ≤ y ∧ bt s y = true ∧ ¬ x_diff σ y = 0)) := by
  intro n
  induction n with
  | zero =>
    intro i ch hi hc
    exact ⟨hc, fun y hy => ⟨fun h => Or.inl h, fun h => by
      rcases h with h | ⟨h, -⟩
      · exact h
      · omega⟩⟩
  | succ n ih =>
    intro i ch hi hc
    have key : ∀ ch', sm ch' → (∀ y, y < 12 → (bt ch' y = true ↔ bt ch y = true ∨ (y = i ∧ bt s y = true ∧ ¬ x_diff σ y = 0))) → sm (chgL σ s n (i + 1) ch') ∧ ∀ y, y < 12 → (bt (chgL σ s n (i + 1) ch') y = true ↔ bt ch y = true ∨ (i ≤ y ∧ bt s y = true ∧ ¬ x_diff σ y = 0)) := by
      intro ch' h1 h2
      obtain ⟨g1, g2⟩ := ih (i + 1) ch' (by omega) h1
      refine ⟨g1, fun y hy => ?_⟩
      rw [g2 y hy, h2 y hy]
      constructor
      · rintro ((h | ⟨rfl, h⟩) | ⟨h, h'⟩)
        · exact Or.inl h
        · exact Or.inr ⟨Nat.le_refl _, h⟩
        · exact Or.inr ⟨by omega, h'⟩
      · rintro (h | ⟨h, h'⟩)
        · exact Or.inl (Or.inl h)
        · rcases Nat.lt_or_ge i y with q | q
          · exact Or.inr ⟨q, h'⟩
          · exact Or.inl (Or.inr ⟨by omega, h'⟩)
    show sm (chgL σ s n (i + 1) (if btI s i = 0 then ch else if x_diff σ i = 0 then ch else ch ||| ((1 : Int32) <<< (nI i &&& 31)))) ∧ _
    by_cases c1 : btI s i = 0
    · rw [show chgL σ s (n + 1) i ch = chgL σ s n (i + 1) ch from by simp only [chgL, if_pos c1], if_pos c1]
      refine key ch hc fun y hy => ⟨fun h => Or.inl h, fun h => ?_⟩
      rcases h with h | ⟨rfl, h, -⟩
      · exact h
      · rw [(bi0 (by omega)).mp c1] at h; cases h
    · by_cases c2 : x_diff σ i = 0
      · rw [show chgL σ s (n + 1) i ch = chgL σ s n (i + 1) ch from by simp only [chgL, if_neg c1, if_pos c2], if_neg c1, if_pos c2]
        refine key ch hc fun y hy => ⟨fun h => Or.inl h, fun h => ?_⟩
        rcases h with h | ⟨rfl, -, h⟩
        · exact h
        · exact absurd c2 h
      · rw [show chgL σ s (n + 1) i ch = chgL σ s n (i + 1) (ch ||| ((1 : Int32) <<< (nI i &&& 31))) from by simp only [chgL, if_neg c1, if_neg c2], if_neg c1, if_neg c2]
        refine key _ (sm_or hc (sm_one (by omega))) fun y hy => ?_
        rw [b_or, b_one (by omega) (by omega), Bool.or_eq_true]
        refine or_congr Iff.rfl ⟨fun h => ?_, fun h => decide_eq_true h.1⟩
        have := of_decide_eq_true h
        subst this
        exact ⟨rfl, (bi0' (by omega)).mp c1, c2⟩
theorem x_chg_bt (σ : XS) : sm (x_chg σ) ∧ ∀ y, y < 12 → (bt (x_chg σ) y = true ↔ bt (x_reachS σ) y = true ∧ ¬ x_diff σ y = 0) := by
  obtain ⟨h1, h2⟩ := chgL_bt σ (x_reachS σ) 12 0 0 rfl sm_0
  refine ⟨h1, fun y hy => (h2 y hy).trans ⟨fun h => ?_, fun h => Or.inr ⟨Nat.zero_le _, h⟩⟩⟩
  rcases h with h | h
  · rw [b_0] at h; cases h
  · exact h.2
def chM (μ : XS) (s o : Int32) (i : Nat) : Bool := bt s i && !(bt o i && !decide (m_eq μ i = 0))
theorem mchL_ct (μ : XS) (s o : Int32) : ∀ (n i : Nat), i + n ≤ 12 → mchL μ s o n i (nI (fb_ct (chM μ s o) i)) = nI (fb_ct (chM μ s o) (i + n)) := by
  intro n
  induction n with
  | zero => intro i _; rfl
  | succ n ih =>
    intro i h
    show mchL μ s o n (i + 1) (if m_in s i = 0 then nI (fb_ct (chM μ s o) i) else if m_in o i = 0 then nI (fb_ct (chM μ s o) i) + 1 else if m_eq μ i = 0 then nI (fb_ct (chM μ s o) i) + 1 else nI (fb_ct (chM μ s o) i)) = _
    have e : (if m_in s i = 0 then nI (fb_ct (chM μ s o) i) else if m_in o i = 0 then nI (fb_ct (chM μ s o) i) + 1 else if m_eq μ i = 0 then nI (fb_ct (chM μ s o) i) + 1 else nI (fb_ct (chM μ s o) i)) = nI (fb_ct (chM μ s o) (i + 1)) := by
      rw [fb_ct_succ]
      by_cases c1 : m_in s i = 0
      · rw [if_pos c1]
        have z : chM μ s o i = false := by unfold chM; rw [(min0 (by omega)).mp c1]; rfl
        rw [z]; simp
      · rw [if_neg c1]
        have b1 := (min0' (by omega)).mp c1
        by_cases c2 : m_in o i = 0
        · rw [if_pos c2]
          have z : chM μ s o i = true := by unfold chM; rw [b1, (min0 (by omega)).mp c2]; rfl
          rw [z]; simp [nI_1]
        · rw [if_neg c2]
          have b2 := (min0' (by omega)).mp c2
          by_cases c3 : m_eq μ i = 0
          · rw [if_pos c3]
            have z : chM μ s o i = true := by unfold chM; rw [b1, b2, decide_eq_true c3]; rfl
            rw [z]; simp [nI_1]
          · rw [if_neg c3]
            have z : chM μ s o i = false := by unfold chM; rw [b1, b2, decide_eq_false c3]; rfl
            rw [z]; simp
    rw [e, ih (i + 1) (by omega), Nat.add_right_comm i 1 n]
    rfl
theorem m_chg_ct (μ : XS) : m_chg μ = nI (fb_ct (chM μ (m_reach μ) (m_comm μ)) 12) := mchL_ct μ _ _ 12 0 (by decide)
theorem chM_iff {μ : XS} {i : Nat} : chM μ (m_reach μ) (m_comm μ) i = true ↔ bt (m_reach μ) i = true ∧ ¬ (Cm μ i ∧ ¬ m_eq μ i = 0) := by
  unfold chM Cm
  rw [Bool.and_eq_true, Bool.not_eq_true', Bool.and_eq_false_iff]
  refine and_congr_right fun _ => ?_
  by_cases c1 : bt (m_comm μ) i = true
  · by_cases c2 : m_eq μ i = 0
    · simp [c1, c2]
    · simp [c1, c2]
  · simp [c1]
theorem sim_chg {π : Nat → Nat} {A : Nat → Prop} {σ μ : XS} (h : Sim π A σ μ) : ∀ y, y < 12 → (bt (x_chg σ) y = true ↔ ∃ i, i < 12 ∧ chM μ (m_reach μ) (m_comm μ) i = true ∧ π i = y) := by
  obtain ⟨r1, r2⟩ := sim_reach h
  intro y hy
  rw [(x_chg_bt σ).2 y hy, r2 y hy]
  constructor
  · rintro ⟨⟨i, hi, z, rfl⟩, d⟩
    exact ⟨i, hi, chM_iff.mpr ⟨z, fun q => d ((sim_diff h hi (r1 i hi z)).mpr q)⟩, rfl⟩
  · rintro ⟨i, hi, z, rfl⟩
    obtain ⟨z1, z2⟩ := chM_iff.mp z
    exact ⟨⟨i, hi, z1, rfl⟩, fun d => z2 ((sim_diff h hi (r1 i hi z1)).mp d)⟩
theorem sim_chg_ct {π : Nat → Nat} {A : Nat → Prop} {σ μ : XS} (h : Sim π A σ μ) : x_bits (x_chg σ) = m_chg μ := by
  rw [x_bits_ct, m_chg_ct]
  exact congrArg nI (sim_ct h (fun i hi z => Or.inl ((sim_reach h).1 i hi (chM_iff.mp z).1)) (sim_chg h))
end
section
set_option maxRecDepth 100000
/-! the log, the move to the disk, commit, abort and crash -/
theorem setA_ne {σ : XS} {a b i : Nat} {v : Int32} (h : b ≠ a) : (setA σ a i v).2 b = σ.2 b := by
  show (if b = a then upd (σ.2 a) i v else σ.2 b) = σ.2 b
  rw [if_neg h]
theorem setA_at {σ : XS} {a i : Nat} {v : Int32} : (setA σ a i v).2 a = upd (σ.2 a) i v := by
  show (if a = a then upd (σ.2 a) i v else σ.2 a) = _
  rw [if_pos rfl]
theorem setF_ne {σ : XS} {a b : Nat} {v : Int32} (h : b ≠ a) : (setF σ a v).1 b = σ.1 b := by
  show (if b = a then v else σ.1 b) = σ.1 b
  rw [if_neg h]
theorem bring_arr {σ : XS} {j a : Nat} (h : a ≠ 12) (h2 : a ≠ 13) : (x_bring σ j).2 a = σ.2 a := by
  by_cases c : btI (σ.1 11) j = 0
  · rw [bring_c c, setA_ne h2, setA_ne h2, setA_ne h]
    rfl
  · rw [bring_n c]
theorem bring_f {σ : XS} {j k : Nat} (h : k ≠ 11) : (x_bring σ j).1 k = σ.1 k := by
  by_cases c : btI (σ.1 11) j = 0
  · rw [bring_c c]
    exact setF_ne h
  · rw [bring_n c]
theorem keep_wl2 (τ : XS) (i k : Nat) : Keep τ (wl2 τ i k) := ⟨⟨rfl, rfl, rfl, rfl⟩, ⟨rfl, rfl, rfl⟩, fun _ _ => rfl, fun _ _ _ _ => rfl⟩
theorem wl2_8 (τ : XS) (i k : Nat) : (wl2 τ i k).1 8 = τ.1 8 := rfl
theorem wlL_keep (ch steps : Int32) : ∀ (n i : Nat) (τ : XS), i + n = 12 → Keep τ (wlL ch steps n i τ) ∧ (wlL ch steps n i τ).1 8 = τ.1 8 := by
  intro n
  induction n with
  | zero => intro i τ _; exact ⟨Keep.rf τ, rfl⟩
  | succ n ih =>
    intro i τ hi
    by_cases c1 : steps ≤ τ.1 4
    · rw [show wlL ch steps (n + 1) i τ = τ from by simp only [wlL, if_pos c1]]
      exact ⟨Keep.rf τ, rfl⟩
    · by_cases c2 : btI ch i = 0
      · rw [show wlL ch steps (n + 1) i τ = wlL ch steps n (i + 1) τ from by simp only [wlL, if_neg c1, if_pos c2]]
        exact ih (i + 1) τ (by omega)
      · rw [show wlL ch steps (n + 1) i τ = wlL ch steps n (i + 1) (wl1 τ i) from by simp only [wlL, if_neg c1, if_neg c2]]
        obtain ⟨h1, h2⟩ := ih (i + 1) (wl1 τ i) (by omega)
        refine ⟨Keep.tr (Keep.tr (keep_bring τ (by omega)) (keep_wl2 _ _ _)) h1, h2.trans ?_⟩
        exact (wl2_8 _ _ _).trans (bring_f (by decide))
/-- the log as it stands behind the places below i -/
def LG (σ : XS) (ch : Int32) (i : Nat) (τ : XS) : Prop := τ.1 4 = nI (fb_ct (bt ch) i) ∧ Keep σ τ ∧ (∀ k, k < fb_ct (bt ch) i → ∃ e, e < 12 ∧ bt ch e = true ∧ τ.2 5 k = nI e ∧ τ.2 6 k = wv σ e ∧ ∀ w, w < 2 → τ.2 7 (2 * k + w) = x_link σ e w) ∧ ∀ e, e < i → bt ch e = true → ∃ k, k < fb_ct (bt ch) i ∧ τ.2 5 k = nI e
theorem LG_step {σ : XS} {ch : Int32} {i : Nat} {τ : XS} (hi : i < 12) (h : LG σ ch i τ) : LG σ ch (i + 1) (if btI ch i = 0 then τ else wl1 τ i) := by
  obtain ⟨h1, h2, h3, h4⟩ := h
  by_cases c : btI ch i = 0
  · rw [if_pos c]
    have hb := (bi0 (by omega)).mp c
    have e : fb_ct (bt ch) (i + 1) = fb_ct (bt ch) i := by rw [fb_ct_succ, hb]; rfl
    unfold LG
    rw [e]
    refine ⟨h1, h2, h3, fun x hx hc => ?_⟩
    by_cases q : x = i
    · subst q
      rw [hb] at hc; cases hc
    · exact h4 x (by omega) hc
  · rw [if_neg c]
    have hb := (bi0' (by omega)).mp c
    have e : fb_ct (bt ch) (i + 1) = fb_ct (bt ch) i + 1 := by rw [fb_ct_succ, hb]; rfl
    have hle := fb_ct_le (bt ch) i
    have ek : ((x_bring τ i).1 4).toNatClampNeg = fb_ct (bt ch) i := by rw [x_bring_4, h1]; exact nI_clamp (by omega)
    unfold LG
    rw [e]
    unfold wl1
    rw [ek]
    generalize fb_ct (bt ch) i = k0 at *
    refine ⟨rfl, Keep.tr h2 (Keep.tr (keep_bring τ hi) (keep_wl2 _ _ _)), fun k hk => ?_, fun x hx hc => ?_⟩
    · by_cases q : k = k0
      · subst q
        refine ⟨i, hi, hb, ?_, ?_, fun w hw => ?_⟩
        · show upd ((x_bring τ i).2 5) k (nI i) k = nI i
          exact pk_us
        · show upd ((x_bring τ i).2 6) k ((x_bring τ i).2 12 i) k = wv σ i
          rw [pk_us, bring_mv hi]
          exact h2.2.2.1 i hi
        · show upd (upd ((x_bring τ i).2 7) (2 * k) ((x_bring τ i).2 13 (2 * i))) (2 * k + 1) ((x_bring τ i).2 13 (2 * i + 1)) (2 * k + w) = x_link σ i w
          rw [← h2.2.2.2 i w hi hw, ← bring_ml hi hw]
          rcases (show w = 0 ∨ w = 1 by omega) with rfl | rfl
          · rw [pk_un (by omega)]
            exact pk_us
          · exact pk_us
      · obtain ⟨x, hx, g1, g2, g3, g4⟩ := h3 k (by omega)
        refine ⟨x, hx, g1, ?_, ?_, fun w hw => ?_⟩
        · show upd ((x_bring τ i).2 5) k0 (nI i) k = nI x
          rw [pk_un q, bring_arr (by decide) (by decide)]
          exact g2
        · show upd ((x_bring τ i).2 6) k0 ((x_bring τ i).2 12 i) k = wv σ x
          rw [pk_un q, bring_arr (by decide) (by decide)]
          exact g3
        · show upd (upd ((x_bring τ i).2 7) (2 * k0) ((x_bring τ i).2 13 (2 * i))) (2 * k0 + 1) ((x_bring τ i).2 13 (2 * i + 1)) (2 * k + w) = x_link σ x w
          rw [pk_un (by omega), pk_un (by omega), bring_arr (by decide) (by decide)]
          exact g4 w hw
    · by_cases q : x = i
      · subst q
        refine ⟨k0, by omega, ?_⟩
        show upd ((x_bring τ x).2 5) k0 (nI x) k0 = nI x
        exact pk_us
      · obtain ⟨k, hk, g⟩ := h4 x (by omega) hc
        refine ⟨k, by omega, ?_⟩
        show upd ((x_bring τ i).2 5) k0 (nI i) k = nI x
        rw [pk_un (by omega), bring_arr (by decide) (by decide)]
        exact g
theorem wlL_LG {σ : XS} {ch steps : Int32} (hs : ∀ i, i < 12 → ¬ steps ≤ nI (fb_ct (bt ch) i)) : ∀ (n i : Nat) (τ : XS), i + n = 12 → LG σ ch i τ → LG σ ch 12 (wlL ch steps n i τ) := by
  intro n
  induction n with
  | zero =>
    intro i τ hi h
    have : i = 12 := by omega
    subst this
    exact h
  | succ n ih =>
    intro i τ hi h
    have c1 : ¬ steps ≤ τ.1 4 := by rw [h.1]; exact hs i (by omega)
    rw [show wlL ch steps (n + 1) i τ = wlL ch steps n (i + 1) (if btI ch i = 0 then τ else wl1 τ i) from by simp only [wlL, if_neg c1]]
    exact ih (i + 1) _ (by omega) (LG_step (by omega) h)
theorem keep_48 (σ : XS) : Keep σ (setF (setF σ 4 0) 8 0) := ⟨⟨rfl, rfl, rfl, rfl⟩, ⟨rfl, rfl, rfl⟩, fun _ _ => rfl, fun _ _ _ _ => rfl⟩
theorem wlog_LG {σ : XS} {ch steps : Int32} (hs : ∀ i, i < 12 → ¬ steps ≤ nI (fb_ct (bt ch) i)) : LG σ ch 12 (x_wlog σ ch steps) :=
  wlL_LG hs 12 0 _ rfl ⟨rfl, keep_48 σ, fun k hk => absurd hk (Nat.not_lt_zero k), fun e he => absurd he (Nat.not_lt_zero e)⟩
theorem wlog_keep (σ : XS) (ch steps : Int32) : Keep σ (x_wlog σ ch steps) ∧ (x_wlog σ ch steps).1 8 = 0 := by
  obtain ⟨h1, h2⟩ := wlL_keep ch steps 12 0 (setF (setF σ 4 0) 8 0) rfl
  exact ⟨Keep.tr (keep_48 σ) h1, h2⟩
/-- a place that holds on the disk what the working state holds -/
def MvY (σ τ : XS) (y : Nat) : Prop := τ.2 0 y = wv σ y ∧ ∀ w, w < 2 → τ.2 1 (2 * y + w) = x_link σ y w
def unY (τ0 τ : XS) (y : Nat) : Prop := τ.2 0 y = τ0.2 0 y ∧ ∀ w, w < 2 → τ.2 1 (2 * y + w) = τ0.2 1 (2 * y + w)
def Mvd (σ : XS) (ch : Int32) (τ0 τ : XS) : Prop := (∀ k, k ≠ 2 → k ≠ 3 → τ.1 k = τ0.1 k) ∧ (∀ a, a ≠ 0 → a ≠ 1 → τ.2 a = τ0.2 a) ∧ ∀ y, y < 12 → unY τ0 τ y ∨ (bt ch y = true ∧ MvY σ τ y)
theorem Mvd.rf (σ : XS) (ch : Int32) (τ : XS) : Mvd σ ch τ τ := ⟨fun _ _ _ => rfl, fun _ _ _ => rfl, fun _ _ => Or.inl ⟨rfl, fun _ _ => rfl⟩⟩
theorem Mvd.tr {σ : XS} {ch : Int32} {a b c : XS} (h : Mvd σ ch a b) (k : Mvd σ ch b c) : Mvd σ ch a c := by
  obtain ⟨h1, h2, h3⟩ := h
  obtain ⟨k1, k2, k3⟩ := k
  refine ⟨fun q q1 q2 => (k1 q q1 q2).trans (h1 q q1 q2), fun q q1 q2 => (k2 q q1 q2).trans (h2 q q1 q2), fun y hy => ?_⟩
  rcases k3 y hy with ⟨g1, g2⟩ | g
  · rcases h3 y hy with ⟨f1, f2⟩ | ⟨f0, f1, f2⟩
    · exact Or.inl ⟨g1.trans f1, fun w hw => (g2 w hw).trans (f2 w hw)⟩
    · exact Or.inr ⟨f0, g1.trans f1, fun w hw => (g2 w hw).trans (f2 w hw)⟩
  · exact Or.inr g
def LF (σ : XS) (ch : Int32) (N : Nat) (τ : XS) : Prop := τ.1 4 = nI N ∧ N ≤ 12 ∧ (∀ k, k < N → ∃ e, e < 12 ∧ bt ch e = true ∧ τ.2 5 k = nI e ∧ τ.2 6 k = wv σ e ∧ ∀ w, w < 2 → τ.2 7 (2 * k + w) = x_link σ e w) ∧ ∀ e, e < 12 → bt ch e = true → ∃ k, k < N ∧ τ.2 5 k = nI e
theorem LF.mv {σ : XS} {ch : Int32} {N : Nat} {τ0 τ : XS} (h : LF σ ch N τ0) (k : Mvd σ ch τ0 τ) : LF σ ch N τ := by
  unfold LF
  rw [k.1 4 (by decide) (by decide), k.2.1 5 (by decide) (by decide), k.2.1 6 (by decide) (by decide), k.2.1 7 (by decide) (by decide)]
  exact h
theorem mv1_mv {σ : XS} {ch : Int32} {τ : XS} {k e : Nat} (hb : bt ch e = true) (g3 : τ.2 6 k = wv σ e) (g4 : ∀ w, w < 2 → τ.2 7 (2 * k + w) = x_link σ e w) : Mvd σ ch τ (mv1 τ k e) ∧ MvY σ (mv1 τ k e) e ∧ ∀ y, y ≠ e → unY τ (mv1 τ k e) y := by
  have m1 : MvY σ (mv1 τ k e) e := by
    refine ⟨?_, fun w hw => ?_⟩
    · show upd (τ.2 0) e (τ.2 6 k) e = wv σ e
      rw [pk_us]; exact g3
    · show upd (upd (τ.2 1) (2 * e) (τ.2 7 (2 * k))) (2 * e + 1) (τ.2 7 (2 * k + 1)) (2 * e + w) = x_link σ e w
      rw [← g4 w hw]
      rcases (show w = 0 ∨ w = 1 by omega) with rfl | rfl
      · rw [pk_un (by omega)]
        exact pk_us
      · exact pk_us
  have m2 : ∀ y, y ≠ e → unY τ (mv1 τ k e) y := by
    intro y hy
    refine ⟨?_, fun w hw => ?_⟩
    · show upd (τ.2 0) e (τ.2 6 k) y = τ.2 0 y
      exact pk_un hy
    · show upd (upd (τ.2 1) (2 * e) (τ.2 7 (2 * k))) (2 * e + 1) (τ.2 7 (2 * k + 1)) (2 * y + w) = τ.2 1 (2 * y + w)
      rw [pk_un (by omega), pk_un (by omega)]
  refine ⟨⟨fun _ _ _ => rfl, fun a h0 h1 => ?_, fun y hy => ?_⟩, m1, m2⟩
  · unfold mv1
    rw [setA_ne h1, setA_ne h1, setA_ne h0]
  · by_cases c : y = e
    · subst c; exact Or.inr ⟨hb, m1⟩
    · exact Or.inl (m2 y c)
theorem mvL_mv {σ : XS} {ch steps : Int32} {N : Nat} : ∀ (n k : Nat) (τ : XS), k + n = 12 → LF σ ch N τ → Mvd σ ch τ (mvL steps n k τ) ∧ ((∀ k', k' < N → ¬ steps ≤ nI k') → (∀ k' e, k' < k → k' < N → e < 12 → τ.2 5 k' = nI e → MvY σ τ e) → ∀ e, e < 12 → bt ch e = true → MvY σ (mvL steps n k τ) e) := by
  intro n
  induction n with
  | zero =>
    intro k τ hk h
    refine ⟨Mvd.rf σ ch τ, fun _ hd e he hb => ?_⟩
    obtain ⟨k', h1, h2⟩ := h.2.2.2 e he hb
    have := h.2.1
    exact hd k' e (by omega) h1 he h2
  | succ n ih =>
    intro k τ hk h
    have hN := h.2.1
    by_cases c1 : τ.1 4 ≤ nI k
    · rw [show mvL steps (n + 1) k τ = τ from by simp only [mvL, if_pos c1]]
      refine ⟨Mvd.rf σ ch τ, fun _ hd e he hb => ?_⟩
      obtain ⟨k', h1, h2⟩ := h.2.2.2 e he hb
      rw [h.1, nI_leI (by omega) (by omega)] at c1
      exact hd k' e (by omega) h1 he h2
    · have hkN : k < N := by
        rw [h.1, nI_leI (by omega) (by omega)] at c1
        omega
      by_cases c2 : steps ≤ nI k
      · rw [show mvL steps (n + 1) k τ = τ from by simp only [mvL, if_neg c1, if_pos c2]]
        exact ⟨Mvd.rf σ ch τ, fun hs => absurd c2 (hs k hkN)⟩
      · obtain ⟨e, he, g1, g2, g3, g4⟩ := h.2.2.1 k hkN
        rw [show mvL steps (n + 1) k τ = mvL steps n (k + 1) (mv1 τ k e) from by
          have hc : (nI e).toNatClampNeg = e := nI_clamp (by omega)
          simp only [mvL, if_neg c1, if_neg c2, g2, hc]]
        obtain ⟨m0, m1, m2⟩ := mv1_mv g1 g3 g4
        obtain ⟨i1, i2⟩ := ih (k + 1) (mv1 τ k e) (by omega) (h.mv m0)
        refine ⟨m0.tr i1, fun hs hd x hx hb => i2 hs (fun k' y hk' hN' hy hp => ?_) x hx hb⟩
        have hp2 : τ.2 5 k' = nI y := hp
        by_cases q : y = e
        · subst q; exact m1
        · have hk2 : k' < k := by
            rcases Nat.lt_or_ge k' k with z | z
            · exact z
            · have : k' = k := by omega
              subst this
              rw [g2] at hp2
              exact absurd (nI_inj (by omega) (by omega) hp2).symm q
          obtain ⟨f1, f2⟩ := hd k' y hk2 hN' hy hp2
          obtain ⟨u1, u2⟩ := m2 y q
          exact ⟨u1.trans f1, fun w hw => (u2 w hw).trans (f2 w hw)⟩
theorem mvE_mv (σ : XS) (ch : Int32) (τ : XS) (steps : Int32) : Mvd σ ch τ (mvE τ steps) := by
  unfold mvE
  by_cases c : τ.1 4 ≤ steps
  · rw [if_pos c]
    exact ⟨fun k h2 h3 => by rw [setF_ne h3, setF_ne h2], fun _ _ _ => rfl, fun _ _ => Or.inl ⟨rfl, fun _ _ => rfl⟩⟩
  · rw [if_neg c]
    exact Mvd.rf σ ch τ
theorem move_mv {σ : XS} {ch : Int32} {N : Nat} {τ : XS} (steps : Int32) (h : LF σ ch N τ) : Mvd σ ch τ (x_move τ steps) := ((mvL_mv 12 0 τ rfl h).1).tr (mvE_mv σ ch _ steps)
theorem move_all {σ : XS} {ch : Int32} {N : Nat} {τ : XS} (h : LF σ ch N τ) : (∀ e, e < 12 → bt ch e = true → MvY σ (x_move τ 12) e) ∧ (x_move τ 12).1 2 = τ.1 9 ∧ (x_move τ 12).1 3 = τ.1 10 := by
  obtain ⟨h1, h2⟩ := mvL_mv (steps := 12) 12 0 τ rfl h
  have hN := h.2.1
  have h3 := h2 (fun k hk => nI_ge (b := 12) (by omega) (by decide)) (fun k' e hk => absurd hk (Nat.not_lt_zero k'))
  have c : (mvL 12 12 0 τ).1 4 ≤ 12 := by
    rw [h1.1 4 (by decide) (by decide), h.1]
    exact nI_le (b := 12) hN (by decide)
  have e : x_move τ 12 = setF (setF (mvL 12 12 0 τ) 2 ((mvL 12 12 0 τ).1 9)) 3 ((mvL 12 12 0 τ).1 10) := by
    unfold x_move mvE
    rw [if_pos c]
  rw [e]
  exact ⟨h3, h1.1 9 (by decide) (by decide), h1.1 10 (by decide) (by decide)⟩
/-- committed: the disk holds the working state of all that is reached -/
def CL (σ τ : XS) : Prop := (τ.1 2 = σ.1 15 ∧ τ.1 3 = x_reachS σ ∧ τ.1 14 = σ.1 14 ∧ τ.1 15 = σ.1 15 ∧ τ.2 16 = σ.2 16) ∧ (∀ y, y < 12 → bt (x_chg σ) y = true → MvY σ τ y) ∧ (∀ y, y < 12 → ¬ bt (x_chg σ) y = true → unY σ τ y) ∧ (∀ x, x < 12 → wv τ x = wv σ x) ∧ ∀ x w, x < 12 → w < 2 → x_link τ x w = x_link σ x w
theorem reachS_keep {σ τ : XS} (h1 : okX σ) (h2 : okX τ) (k : Keep σ τ) : x_reachS τ = x_reachS σ := by
  unfold x_reachS
  have e : τ.1 15 = σ.1 15 := k.1.2.2.2
  rw [e]
  refine cl_same (okL_x h1) (x_clo_is (okL_x h1) (sm_bitO h1.2.2.2.2.2.1)) (x_clo_is (okL_x h2) (sm_bitO h1.2.2.2.2.2.1)) fun i hi _ => ⟨k.2.2.2 i 0 hi (by decide), k.2.2.2 i 1 hi (by decide)⟩
theorem Mvd.wk {σ : XS} {ch : Int32} {τ0 τ : XS} (k : Keep σ τ0) (m : Mvd σ ch τ0 τ) : (∀ x, x < 12 → wv τ x = wv σ x) ∧ ∀ x w, x < 12 → w < 2 → x_link τ x w = x_link σ x w := by
  refine ⟨fun x hx => ?_, fun x w hx hw => ?_⟩
  · have h0 := k.2.2.1 x hx
    unfold wv at h0 ⊢
    rw [m.1 11 (by decide) (by decide), m.2.1 12 (by decide) (by decide)]
    rcases m.2.2 x hx with ⟨u, -⟩ | ⟨-, u, -⟩
    · rw [u]; exact h0
    · unfold wv at u
      by_cases c : btI (τ0.1 11) x = 0
      · rw [if_pos c, u]
      · rw [if_neg c]
        rw [if_neg c] at h0
        exact h0
  · have h0 := k.2.2.2 x w hx hw
    unfold x_link at h0 ⊢
    rw [m.1 11 (by decide) (by decide), m.2.1 13 (by decide) (by decide)]
    rcases m.2.2 x hx with ⟨-, u⟩ | ⟨-, -, u⟩
    · rw [u w hw]; exact h0
    · have u := u w hw
      unfold x_link at u
      by_cases c : btI (τ0.1 11) x = 0
      · rw [if_pos c, u]
      · rw [if_neg c]
        rw [if_neg c] at h0
        exact h0
theorem keep_mark {σ τ : XS} (k : Keep σ τ) : Keep σ (x_mark τ) := Keep.tr k ⟨⟨rfl, rfl, rfl, rfl⟩, ⟨rfl, rfl, rfl⟩, fun _ _ => rfl, fun _ _ _ _ => rfl⟩
theorem LF_mark {σ τ : XS} {ch : Int32} (h : LG σ ch 12 τ) : LF σ ch (fb_ct (bt ch) 12) (x_mark τ) := ⟨h.1, fb_ct_le _ _, h.2.2.1, h.2.2.2⟩
theorem CL_of {σ τ τ' : XS} (ok : okX σ) (okt : okX τ) (h : LG σ (x_chg σ) 12 τ) (m : Mvd σ (x_chg σ) (x_mark τ) τ') : CL σ (setF (setF (x_move τ' 12) 4 0) 8 0) := by
  have lf := LF_mark h
  have lf' := lf.mv m
  have mm := m.tr (move_mv 12 lf')
  obtain ⟨a1, a2, a3⟩ := move_all lf'
  have kk := keep_mark h.2.1
  obtain ⟨w1, w2⟩ := mm.wk kk
  have e9 : τ'.1 9 = τ.1 15 := (m.1 9 (by decide) (by decide)).trans rfl
  have e10 : τ'.1 10 = x_reachS σ := by
    refine (m.1 10 (by decide) (by decide)).trans ?_
    show x_reachS (setF τ 9 (τ.1 15)) = x_reachS σ
    exact reachS_keep ok ⟨okt.1, okt.2.1, okt.2.2.1, okt.2.2.2.1, okt.2.2.2.2.1, okt.2.2.2.2.2.1, okt.2.2.2.2.2.2.1, okt.2.2.2.2.2.1, okt.2.2.2.2.2.2.2.2⟩ (Keep.tr h.2.1 ⟨⟨rfl, rfl, rfl, rfl⟩, ⟨rfl, rfl, rfl⟩, fun _ _ => rfl, fun _ _ _ _ => rfl⟩)
  generalize x_move τ' 12 = ρ at *
  refine ⟨⟨?_, ?_, ?_, ?_, ?_⟩, fun y hy hb => a1 y hy hb, fun y hy hb => ?_, w1, w2⟩
  · show ρ.1 2 = σ.1 15
    rw [a2, e9]
    exact h.2.1.1.2.2.2
  · show ρ.1 3 = x_reachS σ
    rw [a3, e10]
  · show ρ.1 14 = σ.1 14
    rw [mm.1 14 (by decide) (by decide)]
    exact kk.1.2.2.1
  · show ρ.1 15 = σ.1 15
    rw [mm.1 15 (by decide) (by decide)]
    exact kk.1.2.2.2
  · show ρ.2 16 = σ.2 16
    rw [mm.2.1 16 (by decide) (by decide)]
    exact kk.2.1.2.2
  · rcases mm.2.2 y hy with ⟨u1, u2⟩ | ⟨z, -⟩
    · refine ⟨u1.trans ?_, fun w hw => (u2 w hw).trans ?_⟩
      · rw [kk.2.1.1]
      · rw [kk.2.1.2.1]
    · exact absurd z hb
/-- the reference's copies -/
theorem cpyL_is {s : Int32} {f0 f1 g0 g1 : Nat} (n1 : f0 ≠ g0) (n2 : f0 ≠ g1) (n3 : f1 ≠ g0) (n4 : f1 ≠ g1) (n5 : g0 ≠ g1) : ∀ (n i : Nat) (μ : XS), i + n = 12 → (cpyL s f0 f1 g0 g1 n i μ).1 = μ.1 ∧ (∀ a, a ≠ g0 → a ≠ g1 → (cpyL s f0 f1 g0 g1 n i μ).2 a = μ.2 a) ∧ (∀ x, i ≤ x → x < 12 → bt s x = true → (cpyL s f0 f1 g0 g1 n i μ).2 g0 x = μ.2 f0 x ∧ ∀ w, w < 2 → (cpyL s f0 f1 g0 g1 n i μ).2 g1 (2 * x + w) = μ.2 f1 (2 * x + w)) ∧ (∀ x, x < i → (cpyL s f0 f1 g0 g1 n i μ).2 g0 x = μ.2 g0 x ∧ ∀ w, w < 2 → (cpyL s f0 f1 g0 g1 n i μ).2 g1 (2 * x + w) = μ.2 g1 (2 * x + w)) ∧ ((∀ k, okv (μ.2 f1 k)) → (∀ k, okv (μ.2 g1 k)) → ∀ k, okv ((cpyL s f0 f1 g0 g1 n i μ).2 g1 k)) := by
  intro n
  induction n with
  | zero =>
    intro i μ hi
    exact ⟨rfl, fun _ _ _ => rfl, fun x h1 h2 => absurd h2 (by omega), fun x _ => ⟨rfl, fun _ _ => rfl⟩, fun _ h => h⟩
  | succ n ih =>
    intro i μ hi
    by_cases c : m_in s i = 0
    · rw [show cpyL s f0 f1 g0 g1 (n + 1) i μ = cpyL s f0 f1 g0 g1 n (i + 1) μ from by simp only [cpyL, if_pos c]]
      obtain ⟨a1, a2, a3, a4, a5⟩ := ih (i + 1) μ (by omega)
      refine ⟨a1, a2, fun x h1 h2 hb => a3 x ?_ h2 hb, fun x hx => a4 x (by omega), a5⟩
      rcases Nat.lt_or_ge i x with q | q
      · exact q
      · have : x = i := by omega
        subst this
        rw [(min0 (by omega)).mp c] at hb; cases hb
    · rw [show cpyL s f0 f1 g0 g1 (n + 1) i μ = cpyL s f0 f1 g0 g1 n (i + 1) (cpyA μ i f0 f1 g0 g1) from by simp only [cpyL, if_neg c]]
      obtain ⟨a1, a2, a3, a4, a5⟩ := ih (i + 1) (cpyA μ i f0 f1 g0 g1) (by omega)
      have b0 : ∀ a, a ≠ g0 → a ≠ g1 → (cpyA μ i f0 f1 g0 g1).2 a = μ.2 a := fun a h0 h1 => by
        unfold cpyA
        rw [setA_ne h1, setA_ne h1, setA_ne h0]
      have bg0 : (cpyA μ i f0 f1 g0 g1).2 g0 = upd (μ.2 g0) i (μ.2 f0 i) := by
        unfold cpyA
        rw [setA_ne n5, setA_ne n5, setA_at]
      have bg1 : (cpyA μ i f0 f1 g0 g1).2 g1 = upd (upd (μ.2 g1) (2 * i) (μ.2 f1 (2 * i))) (2 * i + 1) (μ.2 f1 (2 * i + 1)) := by
        unfold cpyA
        rw [setA_at, setA_at, setA_ne n5.symm]
      refine ⟨a1, fun a h0 h1 => (a2 a h0 h1).trans (b0 a h0 h1), fun x h1 h2 hb => ?_, fun x hx => ?_, fun k1 k2 => a5 (by rw [b0 f1 n3 n4]; exact k1) (by rw [bg1]; exact ok_up (ok_up k2 (k1 _)) (k1 _))⟩
      · rcases Nat.lt_or_ge i x with q | q
        · have := a3 x q h2 hb
          rw [b0 f0 n1 n2, b0 f1 n3 n4] at this
          exact this
        · have : x = i := by omega
          subst this
          obtain ⟨e1, e2⟩ := a4 x (Nat.lt_succ_self x)
          refine ⟨?_, fun w hw => ?_⟩
          · rw [e1, bg0, pk_us]
          · rw [e2 w hw, bg1]
            rcases (show w = 0 ∨ w = 1 by omega) with rfl | rfl
            · rw [pk_un (by omega)]
              exact pk_us
            · exact pk_us
      · obtain ⟨e1, e2⟩ := a4 x (by omega)
        refine ⟨?_, fun w hw => ?_⟩
        · rw [e1, bg0, pk_un (by omega)]
        · rw [e2 w hw, bg1, pk_un (by omega), pk_un (by omega)]
theorem sim_commit {π : Nat → Nat} {A : Nat → Prop} {σ τ μ : XS} (h : Sim π A σ μ) (ok : okX τ) (k : CL σ τ) : Sim π A τ (m_commit μ).2 := by
  obtain ⟨r1, r2⟩ := sim_reach h
  have hE := (x_chg_bt σ).2
  obtain ⟨h1, h2, h3, h4, h5, h6, h7, h8, h9, h10, h11, h12, h13, h14⟩ := h
  obtain ⟨⟨k1, k2, k3, k4, k5⟩, k6, k7, k8, k9⟩ := k
  obtain ⟨c1, c2, c3, c4, c5⟩ := cpyL_is (s := m_reach μ) (f0 := 0) (f1 := 1) (g0 := 4) (g1 := 5) (by decide) (by decide) (by decide) (by decide) (by decide) 12 0 (setF μ 6 (μ.1 2)) rfl
  have em : (m_commit μ).2 = cpyL (m_reach μ) 0 1 4 5 12 0 (setF μ 6 (μ.1 2)) := rfl
  rw [em]
  generalize cpyL (m_reach μ) 0 1 4 5 12 0 (setF μ 6 (μ.1 2)) = ν at *
  have e0 : ν.2 0 = μ.2 0 := c2 0 (by decide) (by decide)
  have e1 : ν.2 1 = μ.2 1 := c2 1 (by decide) (by decide)
  have e3 : ν.2 3 = μ.2 3 := c2 3 (by decide) (by decide)
  have f2 : ν.1 2 = μ.1 2 := by rw [c1]; rfl
  have f6 : ν.1 6 = μ.1 2 := by rw [c1]; rfl
  have ov : okM ν := by
    refine ⟨by rw [e1]; exact h2.1, c5 h2.1 h2.2.1, by rw [e3]; exact h2.2.2.1, by rw [f2]; exact h2.2.2.2.1, by rw [f6]; exact h2.2.2.2.1⟩
  have ec : m_comm ν = m_reach μ := by
    have i1 := comm_is ov
    rw [f6] at i1
    exact cl_same (okL_2 h2.1) (reach_is h2) i1 fun i hi q => ⟨(c3 i (Nat.zero_le _) hi q).2 0 (by decide), (c3 i (Nat.zero_le _) hi q).2 1 (by decide)⟩
  have hc : ∀ i, Cm ν i ↔ bt (m_reach μ) i = true := fun i => by unfold Cm; rw [ec]
  have hAC : ∀ i, i < 12 → A i ∨ Cm ν i → A i := fun i hi z => by
    rcases z with z | z
    · exact z
    · exact r1 i hi ((hc i).mp z)
  refine ⟨ok, ov, ⟨by rw [k2]; exact (x_clo_is (okL_x h1) (sm_bitO h1.2.2.2.2.2.1)).1, by rw [k3]; exact h3.2⟩, by rw [f2]; exact h4, by rw [e3]; exact h5, by rw [e1]; exact h6, ⟨by rw [k4, f2]; exact h7.1, by rw [k1, f6]; exact h7.1⟩, fun q hq => by rw [k5, e3]; exact h8 q hq, fun i hi z => h9 i hi (Or.inl (hAC i hi z)), fun i j hi hj z1 z2 => h10 i j hi hj (Or.inl (hAC i hi z1)) (Or.inl (hAC j hj z2)), fun i hi z => ?_, fun i hi z => ?_, fun y hy => ?_, fun i hi z => by rw [k3]; exact h14 i hi (Or.inl (hAC i hi z))⟩
  · have hp := h9 i hi (Or.inl z)
    refine ⟨by rw [k8 _ hp, e0]; exact (h11 i hi z).1, fun w hw => by rw [k9 _ _ hp hw, e1]; exact (h11 i hi z).2 w hw⟩
  · have z := (hc i).mp z
    have a := r1 i hi z
    have hp := h9 i hi (Or.inl a)
    obtain ⟨w1, w2⟩ := h11 i hi a
    obtain ⟨d1, d2⟩ := c3 i (Nat.zero_le _) hi z
    rw [d1]
    by_cases c : bt (x_chg σ) (π i) = true
    · obtain ⟨m1, m2⟩ := k6 (π i) hp c
      refine ⟨m1.trans w1, fun w hw => ?_⟩
      rw [m2 w hw, d2 w hw]
      exact w2 w hw
    · obtain ⟨m1, m2⟩ := k7 (π i) hp c
      have hd : x_diff σ (π i) = 0 := by
        refine Classical.byContradiction fun q => c ((hE (π i) hp).mpr ⟨(r2 (π i) hp).mpr ⟨i, hi, z, rfl⟩, q⟩)
      obtain ⟨-, s1, s2, s3⟩ := (x_diff_E hp).mp hd
      refine ⟨m1.trans (s1.symm.trans w1), fun w hw => ?_⟩
      rw [m2 w hw, d2 w hw]
      refine Eq.trans ?_ (w2 w hw)
      rcases (show w = 0 ∨ w = 1 by omega) with rfl | rfl
      · exact s2.symm
      · exact s3.symm
  · rw [k2, r2 y hy]
    exact ⟨fun ⟨i, hi, z1, z2⟩ => ⟨i, hi, (hc i).mpr z1, z2⟩, fun ⟨i, hi, z1, z2⟩ => ⟨i, hi, (hc i).mp z1, z2⟩⟩
theorem okX_480 {σ : XS} (h : okX σ) : okX (setF (setF σ 4 0) 8 0) := okX_48 h
theorem op_commit {σ μ : XS} (h : SimR σ μ) : (x_commit σ).1 = (m_commit μ).1 ∧ SimR (x_commit σ).2 (m_commit μ).2 := by
  obtain ⟨π, A, h⟩ := h
  have ok := h.1
  have okt := okX_wlog (x_chg σ) 12 ok
  refine ⟨sim_chg_ct h, π, A, sim_commit h (okX_48 (okX_move _ (okX_mark okt))) (CL_of ok okt (wlog_LG fun i hi => ?_) (Mvd.rf _ _ _))⟩
  have := fb_ct_le (bt (x_chg σ)) i
  exact nI_ge (b := 12) (by omega) (by decide)
theorem sim_abort {π : Nat → Nat} {A : Nat → Prop} {σ μ : XS} (h : Sim π A σ μ) : Sim π (Cm μ) (x_restart σ) (m_abort μ).2 := by
  have hrC := h.rC
  have hoC : ∀ i w, i < 12 → w < 2 → Cm μ i → ∀ j, j < 12 → μ.2 5 (2 * i + w) = nI j → Cm μ j := fun i w hi hw a => h.oC hi hw a
  obtain ⟨h1, h2, h3, h4, h5, h6, h7, h8, h9, h10, h11, h12, h13, h14⟩ := h
  obtain ⟨c1, c2, c3, c4, c5⟩ := cpyL_is (s := m_comm μ) (f0 := 4) (f1 := 5) (g0 := 0) (g1 := 1) (by decide) (by decide) (by decide) (by decide) (by decide) 12 0 (rsL 3 4 0 (setF μ 2 (μ.1 6))) rfl
  have em : (m_abort μ).2 = cpyL (m_comm μ) 4 5 0 1 12 0 (rsL 3 4 0 (setF μ 2 (μ.1 6))) := rfl
  rw [em]
  generalize cpyL (m_comm μ) 4 5 0 1 12 0 (rsL 3 4 0 (setF μ 2 (μ.1 6))) = ν at *
  have e5 : ν.2 5 = μ.2 5 := c2 5 (by decide) (by decide)
  have e4 : ν.2 4 = μ.2 4 := c2 4 (by decide) (by decide)
  have e3 : ν.2 3 = upd (upd (upd (upd (μ.2 3) 0 (-1)) 1 (-1)) 2 (-1)) 3 (-1) := c2 3 (by decide) (by decide)
  have f2 : ν.1 2 = μ.1 6 := by rw [c1]; rfl
  have f6 : ν.1 6 = μ.1 6 := by rw [c1]; rfl
  have m3 : ∀ q, q < 4 → ν.2 3 q = -1 := by
    intro q hq
    rw [e3]
    rcases (show q = 0 ∨ q = 1 ∨ q = 2 ∨ q = 3 by omega) with rfl | rfl | rfl | rfl <;> rfl
  have x3 : ∀ q, q < 4 → (x_restart σ).2 16 q = -1 := by
    intro q hq
    show upd (upd (upd (upd (σ.2 16) 0 (-1)) 1 (-1)) 2 (-1)) 3 (-1) q = -1
    rcases (show q = 0 ∨ q = 1 ∨ q = 2 ∨ q = 3 by omega) with rfl | rfl | rfl | rfl <;> rfl
  have hc : ∀ i, Cm ν i ↔ Cm μ i := Cm_eq e5 f6
  have ov : okM ν := by
    refine ⟨c5 h2.2.1 h2.1, by rw [e5]; exact h2.2.1, by rw [e3]; exact ok_up (ok_up (ok_up (ok_up h2.2.2.1 okv_m1) okv_m1) okv_m1) okv_m1, by rw [f2]; exact h2.2.2.2.2, by rw [f6]; exact h2.2.2.2.2⟩
  have hd : ∀ i, Cm μ i ∨ Cm ν i → A i ∨ Cm μ i := fun i z => by
    rcases z with z | z
    · exact Or.inr z
    · exact Or.inr ((hc i).mp z)
  have hz : ∀ x, x < 12 → btI ((x_restart σ).1 11) x = 0 := fun x hx => by
    show btI 0 x = 0
    rw [bi0 (by omega)]
    exact b_0 x
  refine ⟨okX_restart h1, ov, ⟨h3.1, h3.1⟩, by rw [f2]; exact hrC, fun q j hq hj e => ?_, fun x y hx hy a e => ?_, ⟨by rw [f2]; exact h7.2, by rw [f6]; exact h7.2⟩, fun q hq => by rw [x3 q hq, m3 q hq, im_m1], fun i hi z => h9 i hi (hd i z), fun i j hi hj z1 z2 => h10 i j hi hj (hd i z1) (hd j z2), fun i hi z => ?_, fun i hi z => ?_, fun y hy => ?_, fun i hi z => ?_⟩
  · rw [m3 q hq] at e
    exact absurd e.symm (nI_nm1 (by omega))
  · rcases e with e | e
    · exact hoC x 0 hx (by decide) a y hy (((c3 x (Nat.zero_le _) hx a).2 0 (by decide)).symm.trans e)
    · exact hoC x 1 hx (by decide) a y hy (((c3 x (Nat.zero_le _) hx a).2 1 (by decide)).symm.trans e)
  · have hp := h9 i hi (Or.inr z)
    obtain ⟨d1, d2⟩ := h12 i hi z
    obtain ⟨g1, g2⟩ := c3 i (Nat.zero_le _) hi z
    unfold wv x_link
    rw [if_pos (hz _ hp)]
    refine ⟨?_, fun w hw => ?_⟩
    · rw [g1]; exact d1
    · rw [if_pos (hz _ hp), g2 w hw]; exact d2 w hw
  · rw [e4, e5]
    exact h12 i hi ((hc i).mp z)
  · exact (h13 y hy).trans ⟨fun ⟨i, hi, z1, z2⟩ => ⟨i, hi, (hc i).mpr z1, z2⟩, fun ⟨i, hi, z1, z2⟩ => ⟨i, hi, (hc i).mp z1, z2⟩⟩
  · have z : Cm μ i := by
      rcases z with z | z
      · exact z
      · exact (hc i).mp z
    exact (h13 (π i) (h9 i hi (Or.inr z))).mpr ⟨i, hi, z, rfl⟩
theorem op_abort {σ μ : XS} (h : SimR σ μ) : (x_abort σ).1 = (m_abort μ).1 ∧ SimR (x_abort σ).2 (m_abort μ).2 := by
  obtain ⟨π, A, h⟩ := h
  refine ⟨?_, π, Cm μ, sim_abort h⟩
  show x_bits ((x_restart σ).1 3) = m_size (m_comm μ)
  rw [x_bits_ct, m_size_ct]
  exact congrArg nI (sim_ct h (fun i hi z => Or.inr z) h.2.2.2.2.2.2.2.2.2.2.2.2.1)
theorem op_crash {σ μ : XS} (h : SimR σ μ) (w : Int32) : (x_crash σ w).1 = (m_crash μ w).1 ∧ SimR (x_crash σ w).2 (m_crash μ w).2 := by
  obtain ⟨π, A, h⟩ := h
  have ok := h.1
  have hn : x_bits (x_chg σ) = m_chg μ := sim_chg_ct h
  have hct := x_bits_ct (x_chg σ)
  have hle := ct_le (x_chg σ)
  have no : ∀ left, left ≤ x_bits (x_chg σ) → (x_cr1 σ left).1 = 0 ∧ SimR (x_cr1 σ left).2 (m_abort μ).2 := by
    intro left c
    obtain ⟨k1, k2⟩ := wlog_keep σ (x_chg σ) left
    have e : x_cr1 σ left = (0, x_restart (setF (setF (x_wlog σ (x_chg σ) left) 4 0) 8 0)) := by
      unfold x_cr1 x_cr2
      rw [if_pos c]
      unfold x_cr3 x_recover
      rw [if_pos k2, if_pos k2]
    rw [e]
    exact ⟨rfl, π, Cm μ, sim_abort (sim_keep h (okX_48 (okX_wlog _ _ ok)) (Keep.tr k1 (keep_48 _)))⟩
  have yes : ∀ left, ¬ left ≤ x_bits (x_chg σ) → (x_cr1 σ left).1 = 1 ∧ SimR (x_cr1 σ left).2 (m_abort (m_commit μ).2).2 := by
    intro left c
    have okt := okX_wlog (x_chg σ) left ok
    have lg : LG σ (x_chg σ) 12 (x_wlog σ (x_chg σ) left) := by
      refine wlog_LG fun i hi q => c ?_
      rw [hct]
      exact Int32.le_trans q (nI_le (fb_ct_mono (bt (x_chg σ)) (by omega)) (by omega))
    obtain ⟨r, er⟩ : ∃ r, x_cr2 (x_wlog σ (x_chg σ) left) (x_bits (x_chg σ)) left = x_move (x_mark (x_wlog σ (x_chg σ) left)) r := by
      unfold x_cr2
      rw [if_neg c]
      by_cases c2 : left - x_bits (x_chg σ) - 1 ≤ 12
      · exact ⟨_, by rw [if_pos c2]⟩
      · exact ⟨_, by rw [if_neg c2]⟩
    have m := move_mv r (LF_mark lg)
    have n8 : ¬ (x_move (x_mark (x_wlog σ (x_chg σ) left)) r).1 8 = 0 := by
      rw [m.1 8 (by decide) (by decide)]
      show ¬ (1 : Int32) = 0
      decide
    have e : x_cr1 σ left = (1, x_restart (setF (setF (x_move (x_move (x_mark (x_wlog σ (x_chg σ) left)) r) 12) 4 0) 8 0)) := by
      unfold x_cr1
      rw [er]
      unfold x_cr3 x_recover
      rw [if_neg n8, if_neg n8]
    rw [e]
    have s1 := sim_commit h (okX_48 (okX_move 12 (okX_move r (okX_mark okt)))) (CL_of ok okt lg m)
    exact ⟨rfl, π, _, sim_abort s1⟩
  unfold x_crash m_crash
  by_cases c0 : 0 ≤ w
  · rw [if_pos c0]
    by_cases c : w ≤ m_chg μ
    · rw [if_pos c]
      exact no w (by rw [hn]; exact c)
    · rw [if_neg c]
      exact yes w (by rw [hn]; exact c)
  · rw [if_neg c0]
    have z : (0 : Int32) ≤ x_bits (x_chg σ) := by rw [hct]; exact nI_pos' (by omega)
    have c : w ≤ m_chg μ := by
      rw [← hn]
      exact Int32.le_trans (Int32.le_of_lt (Int32.not_le.mp c0)) z
    rw [if_pos c]
    exact no 0 z
end
section
set_option maxRecDepth 100000
/-! make: the collector, a free place, and the new object on both sides -/
theorem usedL_bt {f : Nat → Int32} (hf : ∀ k, okv (f k)) : ∀ (n i : Nat) (s : Int32), sm s → sm (usedL f n i s) ∧ ∀ y, y < 12 → (bt (usedL f n i s) y = true ↔ bt s y = true ∨ ∃ k, i ≤ k ∧ k < i + n ∧ f k = nI y) := by
  intro n
  induction n with
  | zero =>
    intro i s hs
    exact ⟨hs, fun y _ => ⟨fun h => Or.inl h, fun h => by
      rcases h with h | ⟨k, h1, h2, -⟩
      · exact h
      · omega⟩⟩
  | succ n ih =>
    intro i s hs
    obtain ⟨g1, g2⟩ := ih (i + 1) (orL s (f i)) (sm_orL hs (hf i))
    refine ⟨g1, fun y hy => (g2 y hy).trans ?_⟩
    rw [orL_bt (hf i) (by omega)]
    constructor
    · rintro ((h | h) | ⟨k, h1, h2, h3⟩)
      · exact Or.inl h
      · exact Or.inr ⟨i, Nat.le_refl _, by omega, h⟩
      · exact Or.inr ⟨k, by omega, by omega, h3⟩
    · rintro (h | ⟨k, h1, h2, h3⟩)
      · exact Or.inl (Or.inl h)
      · rcases Nat.lt_or_ge i k with q | q
        · exact Or.inr ⟨k, q, by omega, h3⟩
        · have : k = i := by omega
          subst this
          exact Or.inl (Or.inr h3)
theorem musL_bt {f : Nat → Int32} (hf : ∀ k, okv (f k)) : ∀ (n i : Nat) (s : Int32), sm s → sm (musL f n i s) ∧ ∀ y, y < 12 → (bt (musL f n i s) y = true ↔ bt s y = true ∨ ∃ k, i ≤ k ∧ k < i + n ∧ f k = nI y) := by
  intro n
  induction n with
  | zero =>
    intro i s hs
    exact ⟨hs, fun y _ => ⟨fun h => Or.inl h, fun h => by
      rcases h with h | ⟨k, h1, h2, -⟩
      · exact h
      · omega⟩⟩
  | succ n ih =>
    intro i s hs
    obtain ⟨g1, g2⟩ := ih (i + 1) (s ||| bitO (f i)) (sm_or hs (sm_bitO (hf i)))
    refine ⟨g1, fun y hy => (g2 y hy).trans ?_⟩
    rw [b_or, Bool.or_eq_true, bitO_bt (hf i) (by omega)]
    constructor
    · rintro ((h | h) | ⟨k, h1, h2, h3⟩)
      · exact Or.inl h
      · exact Or.inr ⟨i, Nat.le_refl _, by omega, h⟩
      · exact Or.inr ⟨k, by omega, by omega, h3⟩
    · rintro (h | ⟨k, h1, h2, h3⟩)
      · exact Or.inl (Or.inl h)
      · rcases Nat.lt_or_ge i k with q | q
        · exact Or.inr ⟨k, q, by omega, h3⟩
        · have : k = i := by omega
          subst this
          exact Or.inl (Or.inr h3)
/-- what the program can come to in the reference -/
def Wk (μ : XS) : Int32 := m_spread μ (musL (μ.2 3) 4 0 (bitO (μ.1 2))) 1
theorem sim_work {π : Nat → Nat} {A : Nat → Prop} {σ μ : XS} (h : Sim π A σ μ) : (∀ i, i < 12 → bt (Wk μ) i = true → A i) ∧ ∀ y, y < 12 → (bt (x_clo σ (usedL (σ.2 16) 4 0 (bitO (σ.1 15)))) y = true ↔ ∃ i, i < 12 ∧ bt (Wk μ) i = true ∧ π i = y) := by
  have ou := h.2.1.2.2.2.1
  have ov := h.1.2.2.2.2.2.1
  obtain ⟨m1, m2⟩ := musL_bt (f := μ.2 3) h.2.1.2.2.1 4 0 (bitO (μ.1 2)) (sm_bitO ou)
  obtain ⟨u1, u2⟩ := usedL_bt (f := σ.2 16) h.1.2.2.2.1 4 0 (bitO (σ.1 15)) (sm_bitO ov)
  have hb := fun (y : Nat) (hy : y < 12) => bitO_im ov ou h.2.2.2.2.2.2.1.1 (h.rng h.2.2.2.1) hy
  refine sim_clo h m1 u1 (fun i hi q => ?_) (fun y hy => ?_)
  · rcases (m2 i hi).mp q with q | ⟨k, -, hk, q⟩
    · exact h.2.2.2.1 i hi ((bitO_bt ou (by omega)).mp q)
    · exact h.hA (k := k) (by omega) i hi q
  · rw [u2 y hy, hb y hy]
    constructor
    · rintro (⟨i, hi, q, e⟩ | ⟨k, -, hk, q⟩)
      · exact ⟨i, hi, (m2 i hi).mpr (Or.inl q), e⟩
      · rw [h.2.2.2.2.2.2.2.1 k (by omega)] at q
        obtain ⟨j, hj, e1, e2⟩ := im_eq (h.2.1.2.2.1 k) hy q (h.rng (h.hA (by omega)))
        exact ⟨j, hj, (m2 j hj).mpr (Or.inr ⟨k, Nat.zero_le _, hk, e1⟩), e2⟩
    · rintro ⟨i, hi, q, rfl⟩
      rcases (m2 i hi).mp q with q | ⟨k, -, hk, q⟩
      · exact Or.inl ⟨i, hi, q, rfl⟩
      · refine Or.inr ⟨k, Nat.zero_le _, hk, ?_⟩
        rw [h.2.2.2.2.2.2.2.1 k (by omega), q, im_n π hi]
theorem sim_shrink {π : Nat → Nat} {A : Nat → Prop} {σ μ : XS} (h : Sim π A σ μ) : Sim π (fun i => i < 12 ∧ bt (Wk μ) i = true) σ μ := by
  obtain ⟨w1, -⟩ := sim_work h
  have ou := h.2.1.2.2.2.1
  obtain ⟨m1, m2⟩ := musL_bt (f := μ.2 3) h.2.1.2.2.1 4 0 (bitO (μ.1 2)) (sm_bitO ou)
  have cl := spread1_is h.2.1 m1
  obtain ⟨h1, h2, h3, h4, h5, h6, h7, h8, h9, h10, h11, h12, h13, h14⟩ := h
  have hd : ∀ i, i < 12 → ((i < 12 ∧ bt (Wk μ) i = true) ∨ Cm μ i) → A i ∨ Cm μ i := fun i hi z => by
    rcases z with z | z
    · exact Or.inl (w1 i hi z.2)
    · exact Or.inr z
  refine ⟨h1, h2, h3, fun j hj e => ⟨hj, cl.2.1 j hj ((m2 j hj).mpr (Or.inl ((bitO_bt ou (by omega)).mpr e)))⟩, fun k j hk hj e => ⟨hj, cl.2.1 j hj ((m2 j hj).mpr (Or.inr ⟨k, Nat.zero_le _, by omega, e⟩))⟩, fun x y hx hy a e => ⟨hy, cl.2.2.1 x y hx hy a.2 e⟩, h7, h8, fun i hi z => h9 i hi (hd i hi z), fun i j hi hj z1 z2 => h10 i j hi hj (hd i hi z1) (hd j hj z2), fun i hi z => h11 i hi (w1 i hi z.2), h12, h13, fun i hi z => h14 i hi (hd i hi z)⟩
theorem up2_m1 {f : Nat → Int32} {a w : Nat} (hw : w < 2) : upd (upd f (2 * a) (-1)) (2 * a + 1) (-1) (2 * a + w) = -1 := by
  rcases (show w = 0 ∨ w = 1 by omega) with rfl | rfl
  · rw [pk_un (by omega)]
    exact pk_us
  · exact pk_us
theorem sim_mk {π : Nat → Nat} {A : Nat → Prop} {σ μ : XS} (h : Sim π A σ μ) {o x : Nat} (ho : o < 12) (hx : x < 12) (na : ¬ A o) (nc : ¬ Cm μ o) (nt : bt (σ.1 14) x = false) (k : Nat) (v : Int32) : Sim (fun i => if i = o then x else π i) (fun i => A i ∨ i = o) (x_mk2 σ x k v) (m_mk2 μ o k v) := by
  have hlA : ∀ i w, i < 12 → w < 2 → A i → ∀ j, j < 12 → μ.2 1 (2 * i + w) = nI j → A j := fun i w hi hw a => h.lA hi hw a
  have hoC : ∀ i w, i < 12 → w < 2 → Cm μ i → ∀ j, j < 12 → μ.2 5 (2 * i + w) = nI j → Cm μ j := fun i w hi hw a => h.oC hi hw a
  have hrC := h.rC
  obtain ⟨h1, h2, h3, h4, h5, h6, h7, h8, h9, h10, h11, h12, h13, h14⟩ := h
  have hc : ∀ i, Cm (m_mk2 μ o k v) i ↔ Cm μ i := Cm_eq rfl rfl
  have nO : ∀ i, A i ∨ Cm μ i → i ≠ o := by
    rintro i (z | z) rfl
    · exact na z
    · exact nc z
  have ne : ∀ i, i < 12 → A i ∨ Cm μ i → π i ≠ x := by
    intro i hi z e
    have := h14 i hi z
    rw [e, nt] at this
    cases this
  have pN : ∀ i, A i ∨ Cm μ i → (if i = o then x else π i) = π i := fun i z => if_neg (nO i z)
  have cg : ∀ u, okv u → (∀ j, j < 12 → u = nI j → A j ∨ Cm μ j) → im (fun i => if i = o then x else π i) u = im π u := fun u hu hj => im_cong hu (fun j h e => pN j (hj j h e))
  have hd : ∀ i, ((A i ∨ i = o) ∨ Cm (m_mk2 μ o k v) i) → i = o ∨ (A i ∨ Cm μ i) := by
    rintro i ((z | z) | z)
    · exact Or.inr (Or.inl z)
    · exact Or.inl z
    · exact Or.inr (Or.inr ((hc i).mp z))
  refine ⟨⟨h1.1, ok_up (ok_up h1.2.1 okv_m1) okv_m1, h1.2.2.1, ok_up h1.2.2.2.1 (okv_n hx), h1.2.2.2.2⟩, ⟨ok_up (ok_up h2.1 okv_m1) okv_m1, h2.2.1, ok_up h2.2.2.1 (okv_n ho), h2.2.2.2⟩, ⟨h3.1, sm_or h3.2 (sm_one hx)⟩, fun j hj e => Or.inl (h4 j hj e), fun q j hq hj e => ?_, fun a c ha hcc z e => ?_, ⟨?_, ?_⟩, fun q hq => ?_, fun i hi z => ?_, fun i j hi hj z1 z2 e => ?_, fun i hi z => ?_, fun i hi z => ?_, fun y hy => ?_, fun i hi z => ?_⟩
  · have e : upd (μ.2 3) k (nI o) q = nI j := e
    unfold upd at e
    by_cases c : q = k
    · rw [if_pos c] at e
      exact Or.inr (nI_inj (by omega) (by omega) e).symm
    · rw [if_neg c] at e
      exact Or.inl (h5 q j hq hj e)
  · have key : ∀ w, w < 2 → upd (upd (μ.2 1) (2 * o) (-1)) (2 * o + 1) (-1) (2 * a + w) = nI c → A c ∨ c = o := by
      intro w hw e
      by_cases q : a = o
      · subst q
        have : upd (upd (μ.2 1) (2 * a) (-1)) (2 * a + 1) (-1) (2 * a + w) = -1 := by
          rcases (show w = 0 ∨ w = 1 by omega) with rfl | rfl
          · rw [pk_un (by omega)]
            exact pk_us
          · exact pk_us
        rw [this] at e
        exact absurd e.symm (nI_nm1 (by omega))
      · rw [pk_un (by omega), pk_un (by omega)] at e
        rcases z with z | z
        · exact Or.inl (hlA a w ha hw z c hcc e)
        · exact absurd z q
    rcases e with e | e
    · exact key 0 (by decide) e
    · exact key 1 (by decide) e
  · exact h7.1.trans (cg _ h2.2.2.2.1 (fun j hj e => Or.inl (h4 j hj e))).symm
  · exact h7.2.trans (cg _ h2.2.2.2.2 (fun j hj e => Or.inr (hrC j hj e))).symm
  · show upd (σ.2 16) k (nI x) q = im _ (upd (μ.2 3) k (nI o) q)
    unfold upd
    by_cases c : q = k
    · rw [if_pos c, if_pos c, im_n _ ho, if_pos rfl]
    · rw [if_neg c, if_neg c, cg _ (h2.2.2.1 q) (fun j hj e => Or.inl (h5 q j hq hj e))]
      exact h8 q hq
  · show (if i = o then x else π i) < 12
    rcases hd i z with rfl | z
    · rw [if_pos rfl]; exact hx
    · rw [pN i z]; exact h9 i hi z
  · have e : (if i = o then x else π i) = (if j = o then x else π j) := e
    rcases hd i z1 with q1 | q1
    · rcases hd j z2 with q2 | q2
      · rw [q1, q2]
      · rw [if_pos q1, pN j q2] at e
        exact absurd e.symm (ne j hj q2)
    · rcases hd j z2 with q2 | q2
      · rw [pN i q1, if_pos q2] at e
        exact absurd e (ne i hi q1)
      · rw [pN i q1, pN j q2] at e
        exact h10 i j hi hj q1 q2 e
  · have shW : ∀ y, wv (x_mk2 σ x k v) y = if btI (σ.1 11 ||| ((1 : Int32) <<< (nI x &&& 31))) y = 0 then σ.2 0 y else upd (σ.2 12) x v y := fun _ => rfl
    have shL : ∀ y w, x_link (x_mk2 σ x k v) y w = if btI (σ.1 11 ||| ((1 : Int32) <<< (nI x &&& 31))) y = 0 then σ.2 1 (2 * y + w) else upd (upd (σ.2 13) (2 * x) (-1)) (2 * x + 1) (-1) (2 * y + w) := fun _ _ => rfl
    have shV : (m_mk2 μ o k v).2 0 i = upd (μ.2 0) o v i := rfl
    have shT : ∀ w, (m_mk2 μ o k v).2 1 (2 * i + w) = upd (upd (μ.2 1) (2 * o) (-1)) (2 * o + 1) (-1) (2 * i + w) := fun _ => rfl
    rw [shV, shW]
    by_cases c : i = o
    · subst c
      simp only [if_pos]
      rw [if_neg (btI_or_eq hx), pk_us, pk_us]
      refine ⟨rfl, fun w hw => ?_⟩
      rw [shL, shT, if_neg (btI_or_eq hx)]
      rw [up2_m1 hw, up2_m1 hw, im_m1]
    · have a : A i := by
        rcases z with z | z
        · exact z
        · exact absurd z c
      have hp := h9 i hi (Or.inl a)
      have hne := ne i hi (Or.inl a)
      obtain ⟨w1, w2⟩ := h11 i hi a
      simp only [if_neg c]
      rw [btI_or_ne hp hx hne, pk_un hne, pk_un c]
      refine ⟨w1, fun w hw => ?_⟩
      rw [shL, shT, btI_or_ne hp hx hne, pk_un (by omega), pk_un (by omega), pk_un (by omega), pk_un (by omega), cg _ (h2.1 _) (fun j hj e => Or.inl (hlA i w hi hw a j hj e))]
      exact w2 w hw
  · have z := (hc i).mp z
    have c := nO i (Or.inr z)
    obtain ⟨d1, d2⟩ := h12 i hi z
    simp only [if_neg c]
    refine ⟨d1, fun w hw => ?_⟩
    refine (d2 w hw).trans (cg _ (h2.2.1 _) (fun j hj e => Or.inr (hoC i w hi hw z j hj e))).symm
  · refine (h13 y hy).trans ⟨fun ⟨i, hi, z1, z2⟩ => ⟨i, hi, (hc i).mpr z1, ?_⟩, fun ⟨i, hi, z1, z2⟩ => ⟨i, hi, (hc i).mp z1, ?_⟩⟩
    · show (if i = o then x else π i) = y
      rw [pN i (Or.inr z1)]; exact z2
    · have z2 : (if i = o then x else π i) = y := z2
      rw [pN i (Or.inr ((hc i).mp z1))] at z2
      exact z2
  · show bt (σ.1 14 ||| ((1 : Int32) <<< (nI x &&& 31))) (if i = o then x else π i) = true
    rcases hd i z with q | q
    · rw [if_pos q, b_or, b_one (by omega) (by omega), decide_eq_true rfl, Bool.or_true]
    · rw [pN i q, b_or, h14 i hi q, Bool.true_or]
theorem mfr_is (s : Int32) : ∀ (n i : Nat), i + n = 12 → (mfr s n i < 12 → bt s (mfr s n i) = false) ∧ (¬ mfr s n i < 12 → ∀ x, i ≤ x → x < 12 → bt s x = true) := by
  intro n
  induction n with
  | zero =>
    intro i hi
    exact ⟨fun h => absurd (show i < 12 from h) (by omega), fun _ x h1 h2 => by omega⟩
  | succ n ih =>
    intro i hi
    by_cases c : m_in s i = 0
    · rw [show mfr s (n + 1) i = i from by simp only [mfr, if_pos c]]
      exact ⟨fun _ => (min0 (by omega)).mp c, fun h => absurd (show i < 12 by omega) h⟩
    · rw [show mfr s (n + 1) i = mfr s n (i + 1) from by simp only [mfr, if_neg c]]
      obtain ⟨g1, g2⟩ := ih (i + 1) (by omega)
      refine ⟨g1, fun h x h1 h2 => ?_⟩
      rcases Nat.lt_or_ge i x with q | q
      · exact g2 h x q h2
      · have : x = i := by omega
        subst this
        exact (min0' (by omega)).mp c
theorem freeL_is (tk : Int32) : ∀ (n i : Nat), i + n = 11 → (∃ y, i ≤ y ∧ y < 12 ∧ bt tk y = false) → bt tk (freeL tk n i) = false := by
  intro n
  induction n with
  | zero =>
    rintro i hi ⟨y, h1, h2, h3⟩
    have : y = i := by omega
    subst this
    exact h3
  | succ n ih =>
    rintro i hi ⟨y, h1, h2, h3⟩
    by_cases c : btI tk i = 0
    · rw [show freeL tk (n + 1) i = i from by simp only [freeL, if_pos c]]
      exact (bi0 (by omega)).mp c
    · rw [show freeL tk (n + 1) i = freeL tk n (i + 1) from by simp only [freeL, if_neg c]]
      refine ih (i + 1) (by omega) ⟨y, ?_, h2, h3⟩
      rcases Nat.lt_or_ge i y with q | q
      · exact q
      · have : y = i := by omega
        subst this
        rw [(bi0' (by omega)).mp c] at h3; cases h3
theorem b_4095 : ∀ i, i < 12 → bt 4095 i = true := by decide +kernel
theorem sm_4095 : sm 4095 := by
  intro i hi
  rcases Nat.lt_or_ge i 32 with h | h
  · exact (by decide +kernel : ∀ i, i < 32 → 12 ≤ i → bt 4095 i = false) i h hi
  · exact b_big h
theorem hole {s : Int32} (h : ct s < 12) : ∃ y, y < 12 ∧ bt s y = false := by
  refine Classical.byContradiction fun c => ?_
  have : fb_ct (bt s) 12 = 12 := fb_ct_all.mpr fun k hk => Classical.byContradiction fun q => c ⟨k, hk, b_false q⟩
  unfold ct at h
  omega
theorem sim_gc {π : Nat → Nat} {A : Nat → Prop} {σ μ : XS} (h : Sim π A σ μ) {u : Int32} (su : sm u) (hu : ∀ y, y < 12 → (bt u y = true ↔ ∃ i, i < 12 ∧ (A i ∨ Cm μ i) ∧ π i = y)) (hc : ct u < 12) : Sim π A (x_fp1 σ u) μ ∧ ∃ y, y < 12 ∧ bt ((x_fp1 σ u).1 14) y = false := by
  unfold x_fp1
  by_cases c : σ.1 14 = 4095
  · rw [if_pos c]
    refine ⟨?_, hole hc⟩
    obtain ⟨h1, h2, h3, h4, h5, h6, h7, h8, h9, h10, h11, h12, h13, h14⟩ := h
    refine ⟨h1, h2, ⟨h3.1, su⟩, h4, h5, h6, h7, h8, h9, h10, fun i hi a => ?_, h12, h13, fun i hi z => (hu (π i) (h9 i hi z)).mpr ⟨i, hi, z, rfl⟩⟩
    have hp := h9 i hi (Or.inl a)
    have hb : bt u (π i) = true := (hu (π i) hp).mpr ⟨i, hi, Or.inl a, rfl⟩
    have e : btI (σ.1 11 &&& u) (π i) = btI (σ.1 11) (π i) := by
      rw [btI_eq (by omega), btI_eq (by omega), b_and, hb, Bool.and_true]
    obtain ⟨w1, w2⟩ := h11 i hi a
    refine ⟨?_, fun w hw => ?_⟩
    · show (if btI (σ.1 11 &&& u) (π i) = 0 then σ.2 0 (π i) else σ.2 12 (π i)) = μ.2 0 i
      rw [e]; exact w1
    · show (if btI (σ.1 11 &&& u) (π i) = 0 then σ.2 1 (2 * π i + w) else σ.2 13 (2 * π i + w)) = im π (μ.2 1 (2 * i + w))
      rw [e]; exact w2 w hw
  · rw [if_neg c]
    refine ⟨h, Classical.byContradiction fun q => c (sm_ext h.2.2.1.2 sm_4095 fun i hi => ⟨fun _ => b_4095 i hi, fun _ => ?_⟩)⟩
    exact Classical.byContradiction fun z => q ⟨i, hi, b_false z⟩
theorem op_make {σ μ : XS} (h : SimR σ μ) (p v : Int32) : (x_make σ p v).1 = (m_make μ p v).1 ∧ SimR (x_make σ p v).2 (m_make μ p v).2 := by
  obtain ⟨π, A, h⟩ := h
  by_cases c : x_isH p = 0
  · simp only [x_make, m_make, if_pos c]
    exact ⟨trivial, π, A, h⟩
  · simp only [x_make, m_make, if_neg c]
    obtain ⟨k, hk, rfl⟩ := isH_in c
    rw [nI_clamp (show k < 2 ^ 31 by omega)]
    obtain ⟨w1, w2⟩ := sim_work h
    have h' := sim_shrink h
    have bU : ∀ i, bt (m_used μ) i = true ↔ bt (Wk μ) i = true ∨ Cm μ i := fun i => by
      show bt (Wk μ ||| m_comm μ) i = true ↔ _
      rw [b_or, Bool.or_eq_true]
      rfl
    have bu : ∀ y, y < 12 → (bt (x_used σ) y = true ↔ ∃ i, i < 12 ∧ bt (m_used μ) i = true ∧ π i = y) := fun y hy => by
      show bt (x_clo σ (usedL (σ.2 16) 4 0 (bitO (σ.1 15))) ||| σ.1 3) y = true ↔ _
      rw [b_or, Bool.or_eq_true, w2 y hy, h.2.2.2.2.2.2.2.2.2.2.2.2.1 y hy]
      constructor
      · rintro (⟨i, hi, z, e⟩ | ⟨i, hi, z, e⟩)
        · exact ⟨i, hi, (bU i).mpr (Or.inl z), e⟩
        · exact ⟨i, hi, (bU i).mpr (Or.inr z), e⟩
      · rintro ⟨i, hi, z, e⟩
        rcases (bU i).mp z with z | z
        · exact Or.inl ⟨i, hi, z, e⟩
        · exact Or.inr ⟨i, hi, z, e⟩
    have su : sm (x_used σ) := sm_or (x_clo_is (okL_x h.1) (usedL_bt h.1.2.2.2.1 4 0 _ (sm_bitO h.1.2.2.2.2.2.1)).1).1 h.2.2.1.1
    have ec : ct (x_used σ) = ct (m_used μ) := sim_ct h (fun i hi z => by
      rcases (bU i).mp z with z | z
      · exact Or.inl (w1 i hi z)
      · exact Or.inr z) bu
    have hct := ct_le (m_used μ)
    obtain ⟨f1, f2⟩ := mfr_is (m_used μ) 12 0 rfl
    have hx : x_bits (x_used σ) < 12 ↔ ct (m_used μ) < 12 := by
      rw [x_bits_ct, ec]
      exact nI_ltI (b := 12) (by omega) (by decide)
    by_cases c2 : mfr (m_used μ) 12 0 < 12
    · have hb := f1 c2
      have hlt : ct (m_used μ) < 12 := by
        rcases Nat.lt_or_ge (ct (m_used μ)) 12 with q | q
        · exact q
        · have : fb_ct (bt (m_used μ)) 12 = 12 := by unfold ct at q hct; omega
          rw [fb_ct_all.mp this _ c2] at hb
          cases hb
      rw [if_pos c2, if_pos (hx.mpr hlt)]
      obtain ⟨s1, y, hy, s2⟩ := sim_gc h' su (fun y hy => (bu y hy).trans ⟨fun ⟨i, hi, z, e⟩ => ⟨i, hi, by
        rcases (bU i).mp z with z | z
        · exact Or.inl ⟨hi, z⟩
        · exact Or.inr z, e⟩, fun ⟨i, hi, z, e⟩ => ⟨i, hi, (bU i).mpr (by
        rcases z with z | z
        · exact Or.inl z.2
        · exact Or.inr z), e⟩⟩) (by rw [ec]; exact hlt)
      refine ⟨rfl, _, _, sim_mk s1 c2 (x_free_lt σ (x_used σ)) (fun z => ?_) (fun z => ?_) (freeL_is _ 11 0 rfl ⟨y, Nat.zero_le _, hy, s2⟩) k v⟩
      · rw [(bU _).mpr (Or.inl z.2)] at hb; cases hb
      · rw [(bU _).mpr (Or.inr z)] at hb; cases hb
    · have hall := f2 c2
      have : ct (m_used μ) = 12 := fb_ct_all.mpr fun i hi => hall i (Nat.zero_le _) hi
      rw [if_neg c2, if_neg (fun z => by have := hx.mp z; omega)]
      exact ⟨rfl, π, A, h⟩
/-- the two new objects are alike -/
theorem sim_init : SimR x_init m_init := by
  have ov : okM m_init := ⟨fun _ => okv_0, fun _ => okv_0, ok_up (ok_up (ok_up (ok_up (fun _ => okv_0) okv_m1) okv_m1) okv_m1) okv_m1, okv_m1, okv_m1⟩
  have hn : ∀ i, i < 12 → ¬ Cm m_init i := by
    intro i hi z
    refine (comm_is ov).2.2.2 (fun _ => False) (fun i hi q => ?_) (fun _ _ _ _ h _ => h) i hi z
    have : (-1 : Int32) = nI i := (bitO_bt (v := -1) okv_m1 (by omega)).mp q
    exact nI_nm1 (by omega) this.symm
  have m3 : ∀ q, q < 4 → m_init.2 3 q = -1 := by
    intro q hq
    rcases (show q = 0 ∨ q = 1 ∨ q = 2 ∨ q = 3 by omega) with rfl | rfl | rfl | rfl <;> rfl
  have x3 : ∀ q, q < 4 → x_init.2 16 q = -1 := by
    intro q hq
    rcases (show q = 0 ∨ q = 1 ∨ q = 2 ∨ q = 3 by omega) with rfl | rfl | rfl | rfl <;> rfl
  refine ⟨fun i => i, fun _ => False, ⟨fun _ => okv_0, fun _ => okv_0, fun _ => okv_0, ok_up (ok_up (ok_up (ok_up (fun _ => okv_0) okv_m1) okv_m1) okv_m1) okv_m1, fun _ => okp_0, okv_m1, okv_m1, okv_0, 0, Nat.zero_le _, rfl⟩, ov, ⟨sm_0, sm_0⟩, fun j hj e => ?_, fun k j hk hj e => ?_, fun _ _ _ _ h _ => h, ⟨(im_m1 _).symm, (im_m1 _).symm⟩, fun q hq => by rw [x3 q hq, m3 q hq, im_m1], fun i hi _ => hi, fun i j _ _ _ _ e => e, fun i _ z => z.elim, fun i hi z => absurd z (hn i hi), fun y hy => ?_, fun i hi z => ?_⟩
  · have e : (-1 : Int32) = nI j := e
    exact nI_nm1 (by omega) e.symm
  · rw [m3 k hk] at e
    exact nI_nm1 (by omega) e.symm
  · constructor
    · intro z
      have z : bt 0 y = true := z
      rw [b_0] at z; cases z
    · rintro ⟨i, hi, z, -⟩
      exact absurd z (hn i hi)
  · rcases z with z | z
    · exact z.elim
    · exact absurd z (hn i hi)
end
section
set_option maxRecDepth 100000
/-! THE CLAIM OUT OF ONE WALK OF THE LAW'S BODY. Your part is whole_start (and what it stands on); all else here is the same for every law, but numbers. -/
def R_law : String := "PersistentGraphLaw"
def lw_P (b : Addr) (xs : List Int32) (args : Array Value) (s : State) : Prop := args = #[.ref b] ∧ s.IntsAt b xs ∧ xs.length ≤ 256 ∧ (Jvm.Cond.and given_1 narrow_1).before args s = true
def lw_Q (_ : Array Value) (s : State) (o : Outcome) (t : State) : Prop := o = .returned (some (.int 1)) ∧ Framed s o t [] 600000 7290000
def lw_Z (below : List Frame) (a : Array Value) (s : State) : State → Prop := fun t => ∃ o, t.status = .running ∧ Ended t below o ∧ lw_Q a s o t
/-- the law's own end, with 1 on the stack, nothing written that was there before, its room as the claim has it -/
theorem lw_ret {p : Program} {l : Launch} {e : Env} {s : State} {m : MethodId} {below : List Frame} {meth : Method} {c : Code} {b : Nat} (hx : p.tables.exec = Jvm.exec) (hb : c.code = code) (hr : meth.sig.returnType = ret) (hlocks : meth.locks = false) {pc : Nat} {H : Heap} {ls : Array Slot} (hdg : decode code pc = .ok (.ireturn, 1)) : W p l e room_1 s m #[Value.ref b] below meth c H [] 600000 7290000 (lw_Z below #[Value.ref b] s) (F0 m pc ls [.int 1]) := by
  intro T hT X
  obtain ⟨fs, hret, hrun, hended, hW, hframe⟩ := X.leave (v := some (.int 1)) (hlocks := hlocks) (fun h => by rw [hr] at h; cases h)
  have hmeth' : T.vm.method? m = some meth := X.method'
  refine ⟨T.setFrames fs, ?_, .returned (some (.int 1)), hrun, hended, rfl, ⟨_, rfl⟩, hW, hframe⟩
  jvm_step X.here [X.here.top, hx, hb, hdg, hmeth', hr, ret, narrow_b1]
  (try refine ⟨rfl, ?_⟩); (try refine ⟨rfl, ?_⟩)
  first | (intro acts; rw [hret _ acts rfl rfl rfl]) | rw [hret _ _ rfl rfl rfl]
  exact Steps.refl _
/-- what holds at the law's entry: the machine, the code, the tables' words (any of lw_tbl by 'hts w (by decide +kernel)'), the script of L ints xs at the cell b, what the Statement gives of the start (any of its parts by flat_of_before) -/
def lw_At (p : Program) (s : State) (m : MethodId) (meth : Method) (c : Code) (b L : Nat) (xs : Nat → Int32) : Prop :=
  p.tables.exec = Jvm.exec ∧ c.code = code ∧ meth.sig.returnType = ret ∧ c.maxLocals = 4 ∧ s.vm.findClass R_law = some m.cls ∧ (∀ w ∈ lw_tbl, w.before #[Value.ref b] s = true) ∧ va_X b L xs s s.heap ∧ b < s.heap.size ∧ meth.locks = false ∧ (Jvm.Cond.and given_1 narrow_1).before #[Value.ref b] s = true
end
section
set_option maxRecDepth 100000
/-! rows for the law: its script, and a call on one of two objects that stand apart -/
def aX (h : Nat) (b : Nat → Nat) : List Nat := [h, b 0, b 1, b 5, b 6, b 7, b 12, b 13, b 16]
def aM (h : Nat) (b : Nat → Nat) : List Nat := [h, b 0, b 1, b 3, b 4, b 5]
section LR
variable {p : Program} {l : Launch} {e : Env} {R : Room} {s : State} {m : MethodId} {args : Array Value} {below : List Frame} {meth : Method} {c : Code} {H : Heap} {locs : List Loc} {cells slots : Nat} {Q : State → Prop}
variable {cc : ByteArray} {pc : Nat} {ls : Array Slot} {rest : List Value} {D : va_G} {A : Nat → Prop} {a : Nat} {tys : List (ClassId × FieldType)} {ws : va_W} {H0 : Heap}
theorem xa_sld (hexec : p.tables.exec = Jvm.exec) (hb : c.code = cc) {b L : Nat} {xs : Nat → Int32} (hX : va_X b L xs s H0) (hbl : b < H0.size) (hbA : ¬ A b) (hS : va_S A H0 H locs) {i : Int32} (j : Nat) (hi : i = nI j) (hj : j < L) (hL : L < 2 ^ 31) (hdg : decode cc pc = .ok (.iaload, 1))
    (kk : W p l e R s m args below meth c H locs cells slots Q (F0 m (pc + 1) ls (.int (xs j) :: rest))) : W p l e R s m args below meth c H locs cells slots Q (F0 m pc ls (.int i :: .ref b :: rest)) := by
  subst hi
  refine va_sld hexec hb hX hbl hbA hS (vp_in_nI hj hL) hdg ?_
  rw [nI_clamp (Nat.lt_trans hj hL)]
  exact kk
variable {y : MethodName} {bytes : ByteArray} {maxL nL n index : Nat} {ret : Option FieldType} {wl : List Cond} {rm : Room} {Ts : List Cond} {own : String} {h0 : Nat} {As st : List Value} {wf wg : XS → va_W} {σ σ' μ : XS} {fs : List Value} {q : vw_C}
theorem cl_i {R0 : Int32} {a1 a2 : List Nat} (hx : p.tables.exec = Jvm.exec) (hb : c.code = cc) (hml : c.maxLocals = nL) (hown : s.vm.findClass own = some m.cls) (hts : ∀ w ∈ Ts, w.before args s = true) (hM : MetI l y wl rm D tys wf h0 As H.size σ R0 σ') (cw : CallW R s args own q.1 index y bytes maxL ret wl rm 0 0 n) (hK : va_K D vwCl tys s) (hP : va_P D vwCl (wf σ) H) (hD : va_D A (wf σ)) (hPg : va_P D vwCl (wg μ) H) (h1 : (wf σ).map Prod.fst = a1) (h2 : (wg μ).map Prod.fst = a2) (hdis : ∀ z, z ∈ a2 → ¬ z ∈ a1) (hS : va_S A H0 H locs) (hA : ∀ q : Nat, H0.size ≤ q → A q) (q0 ci : Nat) (hc : vwCl[ci]? = some q) (he : (wf σ)[q0]? = some (h0, .inr (ci, fs)))
    (hn : As.length = n) (hsize : ls.size = nL) (hstack : st = As.reverse ++ .ref h0 :: rest) (hW : 2 * (F0 m pc ls st).monitorRoom + (rest.map fun v => v.category).sum ≤ 8) (hdg : decode cc pc = .ok (.invokevirtual index, 3)) (hf : cells ≤ R.cells ∧ slots ≤ R.slots)
    (kk : ∀ (H1 : Heap) (locs1 : List Loc), va_P D vwCl (wf σ') H1 → va_D A (wf σ') → va_P D vwCl (wg μ) H1 → va_S A H0 H1 locs1 → W p l e R s m args below meth c H1 locs1 cells slots Q (F0 m (pc + 3) ls (.int R0 :: rest))) : W p l e R s m args below meth c H locs cells slots Q (F0 m pc ls st) := by
  have hF : ∀ z : Nat, va_A (wf σ) H.size z → A z := by
    intro z h
    rcases h with ⟨k, e, h⟩ | h
    · exact hD.2 k (z, e) h
    · exact hA z (Nat.le_trans hS.1 h)
  refine va_calli (va_runV (g := F0 m pc ls st) (As := As) (rest := rest) ⟨hx, hb, hml, hown, hts⟩ hM cw ⟨cPW_blind, va_recv hK hP hc he, fun U hU hW => ⟨rfl, by rw [hU], by rw [hU]; exact hP, va_K.moved hW.alike hK, hD.weaken (fun _ _ _ _ => trivial)⟩⟩ rfl hn hsize hstack hW hdg hf) hS (fun z _ h => hF z h) hF (fun r u t H1 locs1 ht hvm hw hB hz hk hS1 => ?_)
  obtain ⟨hr, hu⟩ := hw
  subst hr
  subst hu
  obtain ⟨hP1, hK1, hD1⟩ := hB
  rw [ht] at hP1
  refine kk H1 locs1 hP1 (hD1.weaken (fun _ z _ h => hF z.1 h)) (hPg.kept fun k x hx => ?_) hS1
  have hlt := (hPg k x hx).lt
  refine hk x.1 hlt fun z => ?_
  rcases z with ⟨k2, e2, z⟩ | z
  · have m2 : x.1 ∈ a2 := by rw [← h2]; exact List.mem_map.mpr ⟨x, List.mem_of_getElem? hx, rfl⟩
    have m1 : x.1 ∈ a1 := by rw [← h1]; exact List.mem_map.mpr ⟨(x.1, e2), List.mem_of_getElem? z, rfl⟩
    exact hdis _ m2 m1
  · exact absurd hlt (Nat.not_lt.mpr z)
end LR
theorem law_inc (i : Nat) : nI i + Int32.ofInt 4 = nI (i + 4) := by
  rw [show Int32.ofInt 4 = nI 4 from by decide +kernel]
  exact nI_add i 4
theorem law_out {L i : Nat} (hL : L ≤ 256) (hi : i ≤ 512) (c : ¬ Int32.ofNat L - 4 < nI i) : i + 4 ≤ L := by
  have e : (Int32.ofNat L - 4).toInt = (L : Int) - 4 := pk_sub_toInt (a := L) (b := 4) (by omega) (by omega)
  rw [Int32.lt_iff_toInt_lt, e, nI_toInt (by omega)] at c
  omega
end
section
set_option maxRecDepth 100000
/-- what holds all through the law -/
def LC (p : Program) (s : State) (m : MethodId) (c : Code) (b0 L : Nat) (xs : Nat → Int32) (dC : Nat → ClassId) (dI : Nat → Nat → Nat) (A : Nat → Prop) (qx qm : Nat) (bx bm : Nat → Nat) (cx cm : Nat → ClassId) : Prop := p.tables.exec = Jvm.exec ∧ c.code = cL_law ∧ c.maxLocals = 4 ∧ s.vm.findClass R_law = some m.cls ∧ (∀ w ∈ lw_all, w.before #[Value.ref b0] s = true) ∧ va_X b0 L xs s s.heap ∧ b0 < s.heap.size ∧ ¬ A b0 ∧ (∀ q : Nat, s.heap.size ≤ q → A q) ∧ va_K (dC, dI) vwCl (tX cx) s ∧ va_K (dC, dI) vwCl (tM cm) s ∧ (∀ z, z ∈ aM qm bm → ¬ z ∈ aX qx bx) ∧ L ≤ 256
/-- the two objects in the heap -/
def LW (s : State) (dC : Nat → ClassId) (dI : Nat → Nat → Nat) (A : Nat → Prop) (qx qm : Nat) (bx bm : Nat → Nat) (cx cm : Nat → ClassId) (σ μ : XS) (H : Heap) (locs : List Loc) : Prop := va_P (dC, dI) vwCl (wX qx bx cx σ) H ∧ va_D A (wX qx bx cx σ) ∧ va_P (dC, dI) vwCl (wM qm bm cm μ) H ∧ va_D A (wM qm bm cm μ) ∧ va_S A s.heap H locs
set_option maxHeartbeats 4000000 in
theorem law_c0 {p : Program} {l : Launch} {e : Env} {s : State} {m : MethodId} {below : List Frame} {meth : Method} {c : Code} {b0 L : Nat} {xs : Nat → Int32} {dC : Nat → ClassId} {dI : Nat → Nat → Nat} {A : Nat → Prop} {qx qm : Nat} {bx bm : Nat → Nat} {cx cm : Nat → ClassId} {Q : State → Prop} (K : LC p s m c b0 L xs dC dI A qx qm bx bm cx cm) {i : Nat} (hi : i + 4 ≤ L) {σ μ : XS} (hs : SimR σ μ) {H : Heap} {locs : List Loc} (hw : LW s dC dI A qx qm bx bm cx cm σ μ H locs) {ls : Array Slot} (hl : lv_has ls 4 [(0, .ref b0), (1, .ref qx), (2, .ref qm), (3, .int (nI i))]) (hk : ∀ (σ μ : XS) (H : Heap) (locs : List Loc) (ls : Array Slot), SimR σ μ → LW s dC dI A qx qm bx bm cx cm σ μ H locs → lv_has ls 4 [(0, .ref b0), (1, .ref qx), (2, .ref qm), (3, .int (nI i))] → W p l e room_1 s m #[Value.ref b0] below meth c H locs 15 224 Q (F0 m 439 ls [])) : W p l e room_1 s m #[Value.ref b0] below meth c H locs 15 224 Q (F0 m 100 ls []) := by
  obtain ⟨hx, hb, hml, hown, hts, hX, hbl, hbA, hA, hKx, hKm, hdis, hL⟩ := K
  obtain ⟨hPx, hDx, hPm, hDm, hS⟩ := hw
  have hsim := hs
  obtain ⟨π0, A0, hs0⟩ := hs
  have hox := hs0.1
  have hom := hs0.2.1
  refine lv_aload_n hx hb dL_law_100 rfl (lv_at hl 1 rfl) ?_
  refine lv_aload_n hx hb dL_law_101 rfl (lv_at hl 0 rfl) ?_
  refine lv_iload_n hx hb dL_law_102 rfl (lv_at hl 3 rfl) ?_
  refine lv_iconst (v := 1) hx hb dL_law_103 (by decide) ?_
  refine lv_iadd hx hb dL_law_104 ?_
  refine lv_tope (nI_add i 1) ?_
  refine xa_sld hx hb hX hbl hbA hS (i + 1) rfl (by omega) (by omega) dL_law_105 ?_
  refine lv_aload_n hx hb dL_law_106 rfl (lv_at hl 0 rfl) ?_
  refine lv_iload_n hx hb dL_law_107 rfl (lv_at hl 3 rfl) ?_
  refine lv_iconst (v := 2) hx hb dL_law_108 (by decide) ?_
  refine lv_iadd hx hb dL_law_109 ?_
  refine lv_tope (nI_add i 2) ?_
  refine xa_sld hx hb hX hbl hbA hS (i + 2) rfl (by omega) (by omega) dL_law_110 ?_
  refine cl_i (D := (dC, dI)) (wf := wX qx bx cx) (wg := wM qm bm cm) hx hb hml hown hts (metX0_make l dC dI qx bx cx _ σ (xs (i + 1)) (xs (i + 2)) hox) (cwV 2 hts (lw_V q90 q91 q92 q26 q93) rfl rfl rfl (by decide +kernel) ⟨Nat.le_of_ble_eq_true rfl, Nat.le_of_ble_eq_true rfl⟩) hKx hPx hDx hPm rfl rfl hdis hS hA 0 0 rfl rfl rfl hl.1 rfl (lv_room (Nat.le_of_ble_eq_true rfl)) dL_law_111 ⟨Nat.le_of_ble_eq_true rfl, Nat.le_of_ble_eq_true rfl⟩ (fun H locs hPx hDx hPm hS => ?_)
  obtain ⟨σ1, eσ1⟩ : ∃ z : XS, z = (x_make σ (xs (i + 1)) (xs (i + 2))).2 := ⟨_, rfl⟩
  rw [← eσ1] at hPx hDx
  refine lv_aload_n hx hb dL_law_114 rfl (lv_at hl 2 rfl) ?_
  refine lv_aload_n hx hb dL_law_115 rfl (lv_at hl 0 rfl) ?_
  refine lv_iload_n hx hb dL_law_116 rfl (lv_at hl 3 rfl) ?_
  refine lv_iconst (v := 1) hx hb dL_law_117 (by decide) ?_
  refine lv_iadd hx hb dL_law_118 ?_
  refine lv_tope (nI_add i 1) ?_
  refine xa_sld hx hb hX hbl hbA hS (i + 1) rfl (by omega) (by omega) dL_law_119 ?_
  refine lv_aload_n hx hb dL_law_120 rfl (lv_at hl 0 rfl) ?_
  refine lv_iload_n hx hb dL_law_121 rfl (lv_at hl 3 rfl) ?_
  refine lv_iconst (v := 2) hx hb dL_law_122 (by decide) ?_
  refine lv_iadd hx hb dL_law_123 ?_
  refine lv_tope (nI_add i 2) ?_
  refine xa_sld hx hb hX hbl hbA hS (i + 2) rfl (by omega) (by omega) dL_law_124 ?_
  refine cl_i (D := (dC, dI)) (wf := wM qm bm cm) (wg := wX qx bx cx) hx hb hml hown hts (metX1_make l dC dI qm bm cm _ μ (xs (i + 1)) (xs (i + 2)) ) (cwV 2 hts (lw_V q230 q231 q232 q27 q233) rfl rfl rfl (by decide +kernel) ⟨Nat.le_of_ble_eq_true rfl, Nat.le_of_ble_eq_true rfl⟩) hKm hPm hDm hPx rfl rfl (fun z z1 z2 => hdis z z2 z1) hS hA 0 1 rfl rfl rfl hl.1 rfl (lv_room (Nat.le_of_ble_eq_true rfl)) dL_law_125 ⟨Nat.le_of_ble_eq_true rfl, Nat.le_of_ble_eq_true rfl⟩ (fun H locs hPm hDm hPx hS => ?_)
  obtain ⟨μ1, eμ1⟩ : ∃ z : XS, z = (m_make μ (xs (i + 1)) (xs (i + 2))).2 := ⟨_, rfl⟩
  rw [← eμ1] at hPm hDm
  refine lv_icmp_eq (tgt := 439) hx hb dL_law_128 (by decide) (fun c_ => ?_) (fun c_ => ?_)
  · exact hk σ1 μ1 _ _ ls (by rw [eσ1, eμ1]; exact (op_make hsim (xs (i + 1)) (xs (i + 2))).2) ⟨hPx, hDx, hPm, hDm, hS⟩ hl
  · exact absurd (op_make hsim (xs (i + 1)) (xs (i + 2))).1 c_

set_option maxHeartbeats 4000000 in
theorem law_c1 {p : Program} {l : Launch} {e : Env} {s : State} {m : MethodId} {below : List Frame} {meth : Method} {c : Code} {b0 L : Nat} {xs : Nat → Int32} {dC : Nat → ClassId} {dI : Nat → Nat → Nat} {A : Nat → Prop} {qx qm : Nat} {bx bm : Nat → Nat} {cx cm : Nat → ClassId} {Q : State → Prop} (K : LC p s m c b0 L xs dC dI A qx qm bx bm cx cm) {i : Nat} (hi : i + 4 ≤ L) {σ μ : XS} (hs : SimR σ μ) {H : Heap} {locs : List Loc} (hw : LW s dC dI A qx qm bx bm cx cm σ μ H locs) {ls : Array Slot} (hl : lv_has ls 4 [(0, .ref b0), (1, .ref qx), (2, .ref qm), (3, .int (nI i))]) (hk : ∀ (σ μ : XS) (H : Heap) (locs : List Loc) (ls : Array Slot), SimR σ μ → LW s dC dI A qx qm bx bm cx cm σ μ H locs → lv_has ls 4 [(0, .ref b0), (1, .ref qx), (2, .ref qm), (3, .int (nI i))] → W p l e room_1 s m #[Value.ref b0] below meth c H locs 15 224 Q (F0 m 439 ls [])) : W p l e room_1 s m #[Value.ref b0] below meth c H locs 15 224 Q (F0 m 133 ls []) := by
  obtain ⟨hx, hb, hml, hown, hts, hX, hbl, hbA, hA, hKx, hKm, hdis, hL⟩ := K
  obtain ⟨hPx, hDx, hPm, hDm, hS⟩ := hw
  have hsim := hs
  obtain ⟨π0, A0, hs0⟩ := hs
  have hox := hs0.1
  have hom := hs0.2.1
  refine lv_aload_n hx hb dL_law_133 rfl (lv_at hl 1 rfl) ?_
  refine lv_aload_n hx hb dL_law_134 rfl (lv_at hl 0 rfl) ?_
  refine lv_iload_n hx hb dL_law_135 rfl (lv_at hl 3 rfl) ?_
  refine lv_iconst (v := 1) hx hb dL_law_136 (by decide) ?_
  refine lv_iadd hx hb dL_law_137 ?_
  refine lv_tope (nI_add i 1) ?_
  refine xa_sld hx hb hX hbl hbA hS (i + 1) rfl (by omega) (by omega) dL_law_138 ?_
  refine cl_i (D := (dC, dI)) (wf := wX qx bx cx) (wg := wM qm bm cm) hx hb hml hown hts (metX0_getRoot l dC dI qx bx cx _ σ (xs (i + 1)) hox) (cwV 1 hts (lw_V q118 q119 q120 q26 q121) rfl rfl rfl (by decide +kernel) ⟨Nat.le_of_ble_eq_true rfl, Nat.le_of_ble_eq_true rfl⟩) hKx hPx hDx hPm rfl rfl hdis hS hA 0 0 rfl rfl rfl hl.1 rfl (lv_room (Nat.le_of_ble_eq_true rfl)) dL_law_139 ⟨Nat.le_of_ble_eq_true rfl, Nat.le_of_ble_eq_true rfl⟩ (fun H locs hPx hDx hPm hS => ?_)
  obtain ⟨σ1, eσ1⟩ : ∃ z : XS, z = (x_getRoot σ (xs (i + 1))).2 := ⟨_, rfl⟩
  rw [← eσ1] at hPx hDx
  refine lv_aload_n hx hb dL_law_142 rfl (lv_at hl 2 rfl) ?_
  refine lv_aload_n hx hb dL_law_143 rfl (lv_at hl 0 rfl) ?_
  refine lv_iload_n hx hb dL_law_144 rfl (lv_at hl 3 rfl) ?_
  refine lv_iconst (v := 1) hx hb dL_law_145 (by decide) ?_
  refine lv_iadd hx hb dL_law_146 ?_
  refine lv_tope (nI_add i 1) ?_
  refine xa_sld hx hb hX hbl hbA hS (i + 1) rfl (by omega) (by omega) dL_law_147 ?_
  refine cl_i (D := (dC, dI)) (wf := wM qm bm cm) (wg := wX qx bx cx) hx hb hml hown hts (metX1_getRoot l dC dI qm bm cm _ μ (xs (i + 1)) ) (cwV 1 hts (lw_V q258 q259 q260 q27 q261) rfl rfl rfl (by decide +kernel) ⟨Nat.le_of_ble_eq_true rfl, Nat.le_of_ble_eq_true rfl⟩) hKm hPm hDm hPx rfl rfl (fun z z1 z2 => hdis z z2 z1) hS hA 0 1 rfl rfl rfl hl.1 rfl (lv_room (Nat.le_of_ble_eq_true rfl)) dL_law_148 ⟨Nat.le_of_ble_eq_true rfl, Nat.le_of_ble_eq_true rfl⟩ (fun H locs hPm hDm hPx hS => ?_)
  obtain ⟨μ1, eμ1⟩ : ∃ z : XS, z = (m_getRoot μ (xs (i + 1))).2 := ⟨_, rfl⟩
  rw [← eμ1] at hPm hDm
  refine lv_icmp_eq (tgt := 439) hx hb dL_law_151 (by decide) (fun c_ => ?_) (fun c_ => ?_)
  · exact hk σ1 μ1 _ _ ls (by rw [eσ1, eμ1]; exact (op_getRoot hsim (xs (i + 1))).2) ⟨hPx, hDx, hPm, hDm, hS⟩ hl
  · exact absurd (op_getRoot hsim (xs (i + 1))).1 c_

set_option maxHeartbeats 4000000 in
theorem law_c2 {p : Program} {l : Launch} {e : Env} {s : State} {m : MethodId} {below : List Frame} {meth : Method} {c : Code} {b0 L : Nat} {xs : Nat → Int32} {dC : Nat → ClassId} {dI : Nat → Nat → Nat} {A : Nat → Prop} {qx qm : Nat} {bx bm : Nat → Nat} {cx cm : Nat → ClassId} {Q : State → Prop} (K : LC p s m c b0 L xs dC dI A qx qm bx bm cx cm) {i : Nat} (hi : i + 4 ≤ L) {σ μ : XS} (hs : SimR σ μ) {H : Heap} {locs : List Loc} (hw : LW s dC dI A qx qm bx bm cx cm σ μ H locs) {ls : Array Slot} (hl : lv_has ls 4 [(0, .ref b0), (1, .ref qx), (2, .ref qm), (3, .int (nI i))]) (hk : ∀ (σ μ : XS) (H : Heap) (locs : List Loc) (ls : Array Slot), SimR σ μ → LW s dC dI A qx qm bx bm cx cm σ μ H locs → lv_has ls 4 [(0, .ref b0), (1, .ref qx), (2, .ref qm), (3, .int (nI i))] → W p l e room_1 s m #[Value.ref b0] below meth c H locs 15 224 Q (F0 m 439 ls [])) : W p l e room_1 s m #[Value.ref b0] below meth c H locs 15 224 Q (F0 m 156 ls []) := by
  obtain ⟨hx, hb, hml, hown, hts, hX, hbl, hbA, hA, hKx, hKm, hdis, hL⟩ := K
  obtain ⟨hPx, hDx, hPm, hDm, hS⟩ := hw
  have hsim := hs
  obtain ⟨π0, A0, hs0⟩ := hs
  have hox := hs0.1
  have hom := hs0.2.1
  refine lv_aload_n hx hb dL_law_156 rfl (lv_at hl 1 rfl) ?_
  refine lv_aload_n hx hb dL_law_157 rfl (lv_at hl 0 rfl) ?_
  refine lv_iload_n hx hb dL_law_158 rfl (lv_at hl 3 rfl) ?_
  refine lv_iconst (v := 1) hx hb dL_law_159 (by decide) ?_
  refine lv_iadd hx hb dL_law_160 ?_
  refine lv_tope (nI_add i 1) ?_
  refine xa_sld hx hb hX hbl hbA hS (i + 1) rfl (by omega) (by omega) dL_law_161 ?_
  refine cl_i (D := (dC, dI)) (wf := wX qx bx cx) (wg := wM qm bm cm) hx hb hml hown hts (metX0_setRoot l dC dI qx bx cx _ σ (xs (i + 1)) hox) (cwV 1 hts (lw_V q122 q123 q124 q26 q125) rfl rfl rfl (by decide +kernel) ⟨Nat.le_of_ble_eq_true rfl, Nat.le_of_ble_eq_true rfl⟩) hKx hPx hDx hPm rfl rfl hdis hS hA 0 0 rfl rfl rfl hl.1 rfl (lv_room (Nat.le_of_ble_eq_true rfl)) dL_law_162 ⟨Nat.le_of_ble_eq_true rfl, Nat.le_of_ble_eq_true rfl⟩ (fun H locs hPx hDx hPm hS => ?_)
  obtain ⟨σ1, eσ1⟩ : ∃ z : XS, z = (x_setRoot σ (xs (i + 1))).2 := ⟨_, rfl⟩
  rw [← eσ1] at hPx hDx
  refine lv_aload_n hx hb dL_law_165 rfl (lv_at hl 2 rfl) ?_
  refine lv_aload_n hx hb dL_law_166 rfl (lv_at hl 0 rfl) ?_
  refine lv_iload_n hx hb dL_law_167 rfl (lv_at hl 3 rfl) ?_
  refine lv_iconst (v := 1) hx hb dL_law_168 (by decide) ?_
  refine lv_iadd hx hb dL_law_169 ?_
  refine lv_tope (nI_add i 1) ?_
  refine xa_sld hx hb hX hbl hbA hS (i + 1) rfl (by omega) (by omega) dL_law_170 ?_
  refine cl_i (D := (dC, dI)) (wf := wM qm bm cm) (wg := wX qx bx cx) hx hb hml hown hts (metX1_setRoot l dC dI qm bm cm _ μ (xs (i + 1)) ) (cwV 1 hts (lw_V q266 q267 q268 q27 q269) rfl rfl rfl (by decide +kernel) ⟨Nat.le_of_ble_eq_true rfl, Nat.le_of_ble_eq_true rfl⟩) hKm hPm hDm hPx rfl rfl (fun z z1 z2 => hdis z z2 z1) hS hA 0 1 rfl rfl rfl hl.1 rfl (lv_room (Nat.le_of_ble_eq_true rfl)) dL_law_171 ⟨Nat.le_of_ble_eq_true rfl, Nat.le_of_ble_eq_true rfl⟩ (fun H locs hPm hDm hPx hS => ?_)
  obtain ⟨μ1, eμ1⟩ : ∃ z : XS, z = (m_setRoot μ (xs (i + 1))).2 := ⟨_, rfl⟩
  rw [← eμ1] at hPm hDm
  refine lv_icmp_eq (tgt := 439) hx hb dL_law_174 (by decide) (fun c_ => ?_) (fun c_ => ?_)
  · exact hk σ1 μ1 _ _ ls (by rw [eσ1, eμ1]; exact (op_setRoot hsim (xs (i + 1))).2) ⟨hPx, hDx, hPm, hDm, hS⟩ hl
  · exact absurd (op_setRoot hsim (xs (i + 1))).1 c_

set_option maxHeartbeats 4000000 in
theorem law_c3 {p : Program} {l : Launch} {e : Env} {s : State} {m : MethodId} {below : List Frame} {meth : Method} {c : Code} {b0 L : Nat} {xs : Nat → Int32} {dC : Nat → ClassId} {dI : Nat → Nat → Nat} {A : Nat → Prop} {qx qm : Nat} {bx bm : Nat → Nat} {cx cm : Nat → ClassId} {Q : State → Prop} (K : LC p s m c b0 L xs dC dI A qx qm bx bm cx cm) {i : Nat} (hi : i + 4 ≤ L) {σ μ : XS} (hs : SimR σ μ) {H : Heap} {locs : List Loc} (hw : LW s dC dI A qx qm bx bm cx cm σ μ H locs) {ls : Array Slot} (hl : lv_has ls 4 [(0, .ref b0), (1, .ref qx), (2, .ref qm), (3, .int (nI i))]) (hk : ∀ (σ μ : XS) (H : Heap) (locs : List Loc) (ls : Array Slot), SimR σ μ → LW s dC dI A qx qm bx bm cx cm σ μ H locs → lv_has ls 4 [(0, .ref b0), (1, .ref qx), (2, .ref qm), (3, .int (nI i))] → W p l e room_1 s m #[Value.ref b0] below meth c H locs 15 224 Q (F0 m 439 ls [])) : W p l e room_1 s m #[Value.ref b0] below meth c H locs 15 224 Q (F0 m 179 ls []) := by
  obtain ⟨hx, hb, hml, hown, hts, hX, hbl, hbA, hA, hKx, hKm, hdis, hL⟩ := K
  obtain ⟨hPx, hDx, hPm, hDm, hS⟩ := hw
  have hsim := hs
  obtain ⟨π0, A0, hs0⟩ := hs
  have hox := hs0.1
  have hom := hs0.2.1
  refine lv_aload_n hx hb dL_law_179 rfl (lv_at hl 1 rfl) ?_
  refine lv_aload_n hx hb dL_law_180 rfl (lv_at hl 0 rfl) ?_
  refine lv_iload_n hx hb dL_law_181 rfl (lv_at hl 3 rfl) ?_
  refine lv_iconst (v := 1) hx hb dL_law_182 (by decide) ?_
  refine lv_iadd hx hb dL_law_183 ?_
  refine lv_tope (nI_add i 1) ?_
  refine xa_sld hx hb hX hbl hbA hS (i + 1) rfl (by omega) (by omega) dL_law_184 ?_
  refine lv_aload_n hx hb dL_law_185 rfl (lv_at hl 0 rfl) ?_
  refine lv_iload_n hx hb dL_law_186 rfl (lv_at hl 3 rfl) ?_
  refine lv_iconst (v := 2) hx hb dL_law_187 (by decide) ?_
  refine lv_iadd hx hb dL_law_188 ?_
  refine lv_tope (nI_add i 2) ?_
  refine xa_sld hx hb hX hbl hbA hS (i + 2) rfl (by omega) (by omega) dL_law_189 ?_
  refine lv_aload_n hx hb dL_law_190 rfl (lv_at hl 0 rfl) ?_
  refine lv_iload_n hx hb dL_law_191 rfl (lv_at hl 3 rfl) ?_
  refine lv_iconst (v := 3) hx hb dL_law_192 (by decide) ?_
  refine lv_iadd hx hb dL_law_193 ?_
  refine lv_tope (nI_add i 3) ?_
  refine xa_sld hx hb hX hbl hbA hS (i + 3) rfl (by omega) (by omega) dL_law_194 ?_
  refine cl_i (D := (dC, dI)) (wf := wX qx bx cx) (wg := wM qm bm cm) hx hb hml hown hts (metX0_follow l dC dI qx bx cx _ σ (xs (i + 1)) (xs (i + 2)) (xs (i + 3)) hox) (cwV 3 hts (lw_V q126 q127 q128 q26 q129) rfl rfl rfl (by decide +kernel) ⟨Nat.le_of_ble_eq_true rfl, Nat.le_of_ble_eq_true rfl⟩) hKx hPx hDx hPm rfl rfl hdis hS hA 0 0 rfl rfl rfl hl.1 rfl (lv_room (Nat.le_of_ble_eq_true rfl)) dL_law_195 ⟨Nat.le_of_ble_eq_true rfl, Nat.le_of_ble_eq_true rfl⟩ (fun H locs hPx hDx hPm hS => ?_)
  obtain ⟨σ1, eσ1⟩ : ∃ z : XS, z = (x_follow σ (xs (i + 1)) (xs (i + 2)) (xs (i + 3))).2 := ⟨_, rfl⟩
  rw [← eσ1] at hPx hDx
  refine lv_aload_n hx hb dL_law_198 rfl (lv_at hl 2 rfl) ?_
  refine lv_aload_n hx hb dL_law_199 rfl (lv_at hl 0 rfl) ?_
  refine lv_iload_n hx hb dL_law_200 rfl (lv_at hl 3 rfl) ?_
  refine lv_iconst (v := 1) hx hb dL_law_201 (by decide) ?_
  refine lv_iadd hx hb dL_law_202 ?_
  refine lv_tope (nI_add i 1) ?_
  refine xa_sld hx hb hX hbl hbA hS (i + 1) rfl (by omega) (by omega) dL_law_203 ?_
  refine lv_aload_n hx hb dL_law_204 rfl (lv_at hl 0 rfl) ?_
  refine lv_iload_n hx hb dL_law_205 rfl (lv_at hl 3 rfl) ?_
  refine lv_iconst (v := 2) hx hb dL_law_206 (by decide) ?_
  refine lv_iadd hx hb dL_law_207 ?_
  refine lv_tope (nI_add i 2) ?_
  refine xa_sld hx hb hX hbl hbA hS (i + 2) rfl (by omega) (by omega) dL_law_208 ?_
  refine lv_aload_n hx hb dL_law_209 rfl (lv_at hl 0 rfl) ?_
  refine lv_iload_n hx hb dL_law_210 rfl (lv_at hl 3 rfl) ?_
  refine lv_iconst (v := 3) hx hb dL_law_211 (by decide) ?_
  refine lv_iadd hx hb dL_law_212 ?_
  refine lv_tope (nI_add i 3) ?_
  refine xa_sld hx hb hX hbl hbA hS (i + 3) rfl (by omega) (by omega) dL_law_213 ?_
  refine cl_i (D := (dC, dI)) (wf := wM qm bm cm) (wg := wX qx bx cx) hx hb hml hown hts (metX1_follow l dC dI qm bm cm _ μ (xs (i + 1)) (xs (i + 2)) (xs (i + 3)) hom) (cwV 3 hts (lw_V q270 q271 q272 q27 q273) rfl rfl rfl (by decide +kernel) ⟨Nat.le_of_ble_eq_true rfl, Nat.le_of_ble_eq_true rfl⟩) hKm hPm hDm hPx rfl rfl (fun z z1 z2 => hdis z z2 z1) hS hA 0 1 rfl rfl rfl hl.1 rfl (lv_room (Nat.le_of_ble_eq_true rfl)) dL_law_214 ⟨Nat.le_of_ble_eq_true rfl, Nat.le_of_ble_eq_true rfl⟩ (fun H locs hPm hDm hPx hS => ?_)
  obtain ⟨μ1, eμ1⟩ : ∃ z : XS, z = (m_follow μ (xs (i + 1)) (xs (i + 2)) (xs (i + 3))).2 := ⟨_, rfl⟩
  rw [← eμ1] at hPm hDm
  refine lv_icmp_eq (tgt := 439) hx hb dL_law_217 (by decide) (fun c_ => ?_) (fun c_ => ?_)
  · exact hk σ1 μ1 _ _ ls (by rw [eσ1, eμ1]; exact (op_follow hsim (xs (i + 1)) (xs (i + 2)) (xs (i + 3))).2) ⟨hPx, hDx, hPm, hDm, hS⟩ hl
  · exact absurd (op_follow hsim (xs (i + 1)) (xs (i + 2)) (xs (i + 3))).1 c_

set_option maxHeartbeats 4000000 in
theorem law_c4 {p : Program} {l : Launch} {e : Env} {s : State} {m : MethodId} {below : List Frame} {meth : Method} {c : Code} {b0 L : Nat} {xs : Nat → Int32} {dC : Nat → ClassId} {dI : Nat → Nat → Nat} {A : Nat → Prop} {qx qm : Nat} {bx bm : Nat → Nat} {cx cm : Nat → ClassId} {Q : State → Prop} (K : LC p s m c b0 L xs dC dI A qx qm bx bm cx cm) {i : Nat} (hi : i + 4 ≤ L) {σ μ : XS} (hs : SimR σ μ) {H : Heap} {locs : List Loc} (hw : LW s dC dI A qx qm bx bm cx cm σ μ H locs) {ls : Array Slot} (hl : lv_has ls 4 [(0, .ref b0), (1, .ref qx), (2, .ref qm), (3, .int (nI i))]) (hk : ∀ (σ μ : XS) (H : Heap) (locs : List Loc) (ls : Array Slot), SimR σ μ → LW s dC dI A qx qm bx bm cx cm σ μ H locs → lv_has ls 4 [(0, .ref b0), (1, .ref qx), (2, .ref qm), (3, .int (nI i))] → W p l e room_1 s m #[Value.ref b0] below meth c H locs 15 224 Q (F0 m 439 ls [])) : W p l e room_1 s m #[Value.ref b0] below meth c H locs 15 224 Q (F0 m 222 ls []) := by
  obtain ⟨hx, hb, hml, hown, hts, hX, hbl, hbA, hA, hKx, hKm, hdis, hL⟩ := K
  obtain ⟨hPx, hDx, hPm, hDm, hS⟩ := hw
  have hsim := hs
  obtain ⟨π0, A0, hs0⟩ := hs
  have hox := hs0.1
  have hom := hs0.2.1
  refine lv_aload_n hx hb dL_law_222 rfl (lv_at hl 1 rfl) ?_
  refine lv_aload_n hx hb dL_law_223 rfl (lv_at hl 0 rfl) ?_
  refine lv_iload_n hx hb dL_law_224 rfl (lv_at hl 3 rfl) ?_
  refine lv_iconst (v := 1) hx hb dL_law_225 (by decide) ?_
  refine lv_iadd hx hb dL_law_226 ?_
  refine lv_tope (nI_add i 1) ?_
  refine xa_sld hx hb hX hbl hbA hS (i + 1) rfl (by omega) (by omega) dL_law_227 ?_
  refine lv_aload_n hx hb dL_law_228 rfl (lv_at hl 0 rfl) ?_
  refine lv_iload_n hx hb dL_law_229 rfl (lv_at hl 3 rfl) ?_
  refine lv_iconst (v := 2) hx hb dL_law_230 (by decide) ?_
  refine lv_iadd hx hb dL_law_231 ?_
  refine lv_tope (nI_add i 2) ?_
  refine xa_sld hx hb hX hbl hbA hS (i + 2) rfl (by omega) (by omega) dL_law_232 ?_
  refine lv_aload_n hx hb dL_law_233 rfl (lv_at hl 0 rfl) ?_
  refine lv_iload_n hx hb dL_law_234 rfl (lv_at hl 3 rfl) ?_
  refine lv_iconst (v := 3) hx hb dL_law_235 (by decide) ?_
  refine lv_iadd hx hb dL_law_236 ?_
  refine lv_tope (nI_add i 3) ?_
  refine xa_sld hx hb hX hbl hbA hS (i + 3) rfl (by omega) (by omega) dL_law_237 ?_
  refine cl_i (D := (dC, dI)) (wf := wX qx bx cx) (wg := wM qm bm cm) hx hb hml hown hts (metX0_link l dC dI qx bx cx _ σ (xs (i + 1)) (xs (i + 2)) (xs (i + 3)) hox) (cwV 3 hts (lw_V q134 q135 q136 q26 q137) rfl rfl rfl (by decide +kernel) ⟨Nat.le_of_ble_eq_true rfl, Nat.le_of_ble_eq_true rfl⟩) hKx hPx hDx hPm rfl rfl hdis hS hA 0 0 rfl rfl rfl hl.1 rfl (lv_room (Nat.le_of_ble_eq_true rfl)) dL_law_238 ⟨Nat.le_of_ble_eq_true rfl, Nat.le_of_ble_eq_true rfl⟩ (fun H locs hPx hDx hPm hS => ?_)
  obtain ⟨σ1, eσ1⟩ : ∃ z : XS, z = (x_linkM σ (xs (i + 1)) (xs (i + 2)) (xs (i + 3))).2 := ⟨_, rfl⟩
  rw [← eσ1] at hPx hDx
  refine lv_aload_n hx hb dL_law_241 rfl (lv_at hl 2 rfl) ?_
  refine lv_aload_n hx hb dL_law_242 rfl (lv_at hl 0 rfl) ?_
  refine lv_iload_n hx hb dL_law_243 rfl (lv_at hl 3 rfl) ?_
  refine lv_iconst (v := 1) hx hb dL_law_244 (by decide) ?_
  refine lv_iadd hx hb dL_law_245 ?_
  refine lv_tope (nI_add i 1) ?_
  refine xa_sld hx hb hX hbl hbA hS (i + 1) rfl (by omega) (by omega) dL_law_246 ?_
  refine lv_aload_n hx hb dL_law_247 rfl (lv_at hl 0 rfl) ?_
  refine lv_iload_n hx hb dL_law_248 rfl (lv_at hl 3 rfl) ?_
  refine lv_iconst (v := 2) hx hb dL_law_249 (by decide) ?_
  refine lv_iadd hx hb dL_law_250 ?_
  refine lv_tope (nI_add i 2) ?_
  refine xa_sld hx hb hX hbl hbA hS (i + 2) rfl (by omega) (by omega) dL_law_251 ?_
  refine lv_aload_n hx hb dL_law_252 rfl (lv_at hl 0 rfl) ?_
  refine lv_iload_n hx hb dL_law_253 rfl (lv_at hl 3 rfl) ?_
  refine lv_iconst (v := 3) hx hb dL_law_254 (by decide) ?_
  refine lv_iadd hx hb dL_law_255 ?_
  refine lv_tope (nI_add i 3) ?_
  refine xa_sld hx hb hX hbl hbA hS (i + 3) rfl (by omega) (by omega) dL_law_256 ?_
  refine cl_i (D := (dC, dI)) (wf := wM qm bm cm) (wg := wX qx bx cx) hx hb hml hown hts (metX1_link l dC dI qm bm cm _ μ (xs (i + 1)) (xs (i + 2)) (xs (i + 3)) hom) (cwV 3 hts (lw_V q274 q275 q276 q27 q277) rfl rfl rfl (by decide +kernel) ⟨Nat.le_of_ble_eq_true rfl, Nat.le_of_ble_eq_true rfl⟩) hKm hPm hDm hPx rfl rfl (fun z z1 z2 => hdis z z2 z1) hS hA 0 1 rfl rfl rfl hl.1 rfl (lv_room (Nat.le_of_ble_eq_true rfl)) dL_law_257 ⟨Nat.le_of_ble_eq_true rfl, Nat.le_of_ble_eq_true rfl⟩ (fun H locs hPm hDm hPx hS => ?_)
  obtain ⟨μ1, eμ1⟩ : ∃ z : XS, z = (m_linkM μ (xs (i + 1)) (xs (i + 2)) (xs (i + 3))).2 := ⟨_, rfl⟩
  rw [← eμ1] at hPm hDm
  refine lv_icmp_eq (tgt := 439) hx hb dL_law_260 (by decide) (fun c_ => ?_) (fun c_ => ?_)
  · exact hk σ1 μ1 _ _ ls (by rw [eσ1, eμ1]; exact (op_link hsim (xs (i + 1)) (xs (i + 2)) (xs (i + 3))).2) ⟨hPx, hDx, hPm, hDm, hS⟩ hl
  · exact absurd (op_link hsim (xs (i + 1)) (xs (i + 2)) (xs (i + 3))).1 c_

set_option maxHeartbeats 4000000 in
theorem law_c5 {p : Program} {l : Launch} {e : Env} {s : State} {m : MethodId} {below : List Frame} {meth : Method} {c : Code} {b0 L : Nat} {xs : Nat → Int32} {dC : Nat → ClassId} {dI : Nat → Nat → Nat} {A : Nat → Prop} {qx qm : Nat} {bx bm : Nat → Nat} {cx cm : Nat → ClassId} {Q : State → Prop} (K : LC p s m c b0 L xs dC dI A qx qm bx bm cx cm) {i : Nat} (hi : i + 4 ≤ L) {σ μ : XS} (hs : SimR σ μ) {H : Heap} {locs : List Loc} (hw : LW s dC dI A qx qm bx bm cx cm σ μ H locs) {ls : Array Slot} (hl : lv_has ls 4 [(0, .ref b0), (1, .ref qx), (2, .ref qm), (3, .int (nI i))]) (hk : ∀ (σ μ : XS) (H : Heap) (locs : List Loc) (ls : Array Slot), SimR σ μ → LW s dC dI A qx qm bx bm cx cm σ μ H locs → lv_has ls 4 [(0, .ref b0), (1, .ref qx), (2, .ref qm), (3, .int (nI i))] → W p l e room_1 s m #[Value.ref b0] below meth c H locs 15 224 Q (F0 m 439 ls [])) : W p l e room_1 s m #[Value.ref b0] below meth c H locs 15 224 Q (F0 m 265 ls []) := by
  obtain ⟨hx, hb, hml, hown, hts, hX, hbl, hbA, hA, hKx, hKm, hdis, hL⟩ := K
  obtain ⟨hPx, hDx, hPm, hDm, hS⟩ := hw
  have hsim := hs
  obtain ⟨π0, A0, hs0⟩ := hs
  have hox := hs0.1
  have hom := hs0.2.1
  refine lv_aload_n hx hb dL_law_265 rfl (lv_at hl 1 rfl) ?_
  refine lv_aload_n hx hb dL_law_266 rfl (lv_at hl 0 rfl) ?_
  refine lv_iload_n hx hb dL_law_267 rfl (lv_at hl 3 rfl) ?_
  refine lv_iconst (v := 1) hx hb dL_law_268 (by decide) ?_
  refine lv_iadd hx hb dL_law_269 ?_
  refine lv_tope (nI_add i 1) ?_
  refine xa_sld hx hb hX hbl hbA hS (i + 1) rfl (by omega) (by omega) dL_law_270 ?_
  refine cl_i (D := (dC, dI)) (wf := wX qx bx cx) (wg := wM qm bm cm) hx hb hml hown hts (metX0_drop l dC dI qx bx cx _ σ (xs (i + 1)) hox) (cwV 1 hts (lw_V q138 q139 q140 q26 q141) rfl rfl rfl (by decide +kernel) ⟨Nat.le_of_ble_eq_true rfl, Nat.le_of_ble_eq_true rfl⟩) hKx hPx hDx hPm rfl rfl hdis hS hA 0 0 rfl rfl rfl hl.1 rfl (lv_room (Nat.le_of_ble_eq_true rfl)) dL_law_271 ⟨Nat.le_of_ble_eq_true rfl, Nat.le_of_ble_eq_true rfl⟩ (fun H locs hPx hDx hPm hS => ?_)
  obtain ⟨σ1, eσ1⟩ : ∃ z : XS, z = (x_drop σ (xs (i + 1))).2 := ⟨_, rfl⟩
  rw [← eσ1] at hPx hDx
  refine lv_aload_n hx hb dL_law_274 rfl (lv_at hl 2 rfl) ?_
  refine lv_aload_n hx hb dL_law_275 rfl (lv_at hl 0 rfl) ?_
  refine lv_iload_n hx hb dL_law_276 rfl (lv_at hl 3 rfl) ?_
  refine lv_iconst (v := 1) hx hb dL_law_277 (by decide) ?_
  refine lv_iadd hx hb dL_law_278 ?_
  refine lv_tope (nI_add i 1) ?_
  refine xa_sld hx hb hX hbl hbA hS (i + 1) rfl (by omega) (by omega) dL_law_279 ?_
  refine cl_i (D := (dC, dI)) (wf := wM qm bm cm) (wg := wX qx bx cx) hx hb hml hown hts (metX1_drop l dC dI qm bm cm _ μ (xs (i + 1)) ) (cwV 1 hts (lw_V q278 q279 q280 q27 q281) rfl rfl rfl (by decide +kernel) ⟨Nat.le_of_ble_eq_true rfl, Nat.le_of_ble_eq_true rfl⟩) hKm hPm hDm hPx rfl rfl (fun z z1 z2 => hdis z z2 z1) hS hA 0 1 rfl rfl rfl hl.1 rfl (lv_room (Nat.le_of_ble_eq_true rfl)) dL_law_280 ⟨Nat.le_of_ble_eq_true rfl, Nat.le_of_ble_eq_true rfl⟩ (fun H locs hPm hDm hPx hS => ?_)
  obtain ⟨μ1, eμ1⟩ : ∃ z : XS, z = (m_drop μ (xs (i + 1))).2 := ⟨_, rfl⟩
  rw [← eμ1] at hPm hDm
  refine lv_icmp_eq (tgt := 439) hx hb dL_law_283 (by decide) (fun c_ => ?_) (fun c_ => ?_)
  · exact hk σ1 μ1 _ _ ls (by rw [eσ1, eμ1]; exact (op_drop hsim (xs (i + 1))).2) ⟨hPx, hDx, hPm, hDm, hS⟩ hl
  · exact absurd (op_drop hsim (xs (i + 1))).1 c_

set_option maxHeartbeats 4000000 in
theorem law_c6 {p : Program} {l : Launch} {e : Env} {s : State} {m : MethodId} {below : List Frame} {meth : Method} {c : Code} {b0 L : Nat} {xs : Nat → Int32} {dC : Nat → ClassId} {dI : Nat → Nat → Nat} {A : Nat → Prop} {qx qm : Nat} {bx bm : Nat → Nat} {cx cm : Nat → ClassId} {Q : State → Prop} (K : LC p s m c b0 L xs dC dI A qx qm bx bm cx cm) {i : Nat} (hi : i + 4 ≤ L) {σ μ : XS} (hs : SimR σ μ) {H : Heap} {locs : List Loc} (hw : LW s dC dI A qx qm bx bm cx cm σ μ H locs) {ls : Array Slot} (hl : lv_has ls 4 [(0, .ref b0), (1, .ref qx), (2, .ref qm), (3, .int (nI i))]) (hk : ∀ (σ μ : XS) (H : Heap) (locs : List Loc) (ls : Array Slot), SimR σ μ → LW s dC dI A qx qm bx bm cx cm σ μ H locs → lv_has ls 4 [(0, .ref b0), (1, .ref qx), (2, .ref qm), (3, .int (nI i))] → W p l e room_1 s m #[Value.ref b0] below meth c H locs 15 224 Q (F0 m 439 ls [])) : W p l e room_1 s m #[Value.ref b0] below meth c H locs 15 224 Q (F0 m 288 ls []) := by
  obtain ⟨hx, hb, hml, hown, hts, hX, hbl, hbA, hA, hKx, hKm, hdis, hL⟩ := K
  obtain ⟨hPx, hDx, hPm, hDm, hS⟩ := hw
  have hsim := hs
  obtain ⟨π0, A0, hs0⟩ := hs
  have hox := hs0.1
  have hom := hs0.2.1
  refine lv_aload_n hx hb dL_law_288 rfl (lv_at hl 1 rfl) ?_
  refine lv_aload_n hx hb dL_law_289 rfl (lv_at hl 0 rfl) ?_
  refine lv_iload_n hx hb dL_law_290 rfl (lv_at hl 3 rfl) ?_
  refine lv_iconst (v := 1) hx hb dL_law_291 (by decide) ?_
  refine lv_iadd hx hb dL_law_292 ?_
  refine lv_tope (nI_add i 1) ?_
  refine xa_sld hx hb hX hbl hbA hS (i + 1) rfl (by omega) (by omega) dL_law_293 ?_
  refine cl_i (D := (dC, dI)) (wf := wX qx bx cx) (wg := wM qm bm cm) hx hb hml hown hts (metX0_value l dC dI qx bx cx _ σ (xs (i + 1)) hox) (cwV 1 hts (lw_V q142 q143 q144 q26 q145) rfl rfl rfl (by decide +kernel) ⟨Nat.le_of_ble_eq_true rfl, Nat.le_of_ble_eq_true rfl⟩) hKx hPx hDx hPm rfl rfl hdis hS hA 0 0 rfl rfl rfl hl.1 rfl (lv_room (Nat.le_of_ble_eq_true rfl)) dL_law_294 ⟨Nat.le_of_ble_eq_true rfl, Nat.le_of_ble_eq_true rfl⟩ (fun H locs hPx hDx hPm hS => ?_)
  obtain ⟨σ1, eσ1⟩ : ∃ z : XS, z = (x_value σ (xs (i + 1))).2 := ⟨_, rfl⟩
  rw [← eσ1] at hPx hDx
  refine lv_aload_n hx hb dL_law_297 rfl (lv_at hl 2 rfl) ?_
  refine lv_aload_n hx hb dL_law_298 rfl (lv_at hl 0 rfl) ?_
  refine lv_iload_n hx hb dL_law_299 rfl (lv_at hl 3 rfl) ?_
  refine lv_iconst (v := 1) hx hb dL_law_300 (by decide) ?_
  refine lv_iadd hx hb dL_law_301 ?_
  refine lv_tope (nI_add i 1) ?_
  refine xa_sld hx hb hX hbl hbA hS (i + 1) rfl (by omega) (by omega) dL_law_302 ?_
  refine cl_i (D := (dC, dI)) (wf := wM qm bm cm) (wg := wX qx bx cx) hx hb hml hown hts (metX1_value l dC dI qm bm cm _ μ (xs (i + 1)) hom) (cwV 1 hts (lw_V q282 q283 q284 q27 q285) rfl rfl rfl (by decide +kernel) ⟨Nat.le_of_ble_eq_true rfl, Nat.le_of_ble_eq_true rfl⟩) hKm hPm hDm hPx rfl rfl (fun z z1 z2 => hdis z z2 z1) hS hA 0 1 rfl rfl rfl hl.1 rfl (lv_room (Nat.le_of_ble_eq_true rfl)) dL_law_303 ⟨Nat.le_of_ble_eq_true rfl, Nat.le_of_ble_eq_true rfl⟩ (fun H locs hPm hDm hPx hS => ?_)
  refine lv_icmp_eq (tgt := 439) hx hb dL_law_306 (by decide) (fun c_ => ?_) (fun c_ => ?_)
  · exact hk σ1 μ _ _ ls (by rw [eσ1]; exact (op_value hsim (xs (i + 1))).2) ⟨hPx, hDx, hPm, hDm, hS⟩ hl
  · exact absurd (op_value hsim (xs (i + 1))).1 c_

set_option maxHeartbeats 4000000 in
theorem law_c7 {p : Program} {l : Launch} {e : Env} {s : State} {m : MethodId} {below : List Frame} {meth : Method} {c : Code} {b0 L : Nat} {xs : Nat → Int32} {dC : Nat → ClassId} {dI : Nat → Nat → Nat} {A : Nat → Prop} {qx qm : Nat} {bx bm : Nat → Nat} {cx cm : Nat → ClassId} {Q : State → Prop} (K : LC p s m c b0 L xs dC dI A qx qm bx bm cx cm) {i : Nat} (hi : i + 4 ≤ L) {σ μ : XS} (hs : SimR σ μ) {H : Heap} {locs : List Loc} (hw : LW s dC dI A qx qm bx bm cx cm σ μ H locs) {ls : Array Slot} (hl : lv_has ls 4 [(0, .ref b0), (1, .ref qx), (2, .ref qm), (3, .int (nI i))]) (hk : ∀ (σ μ : XS) (H : Heap) (locs : List Loc) (ls : Array Slot), SimR σ μ → LW s dC dI A qx qm bx bm cx cm σ μ H locs → lv_has ls 4 [(0, .ref b0), (1, .ref qx), (2, .ref qm), (3, .int (nI i))] → W p l e room_1 s m #[Value.ref b0] below meth c H locs 15 224 Q (F0 m 439 ls [])) : W p l e room_1 s m #[Value.ref b0] below meth c H locs 15 224 Q (F0 m 311 ls []) := by
  obtain ⟨hx, hb, hml, hown, hts, hX, hbl, hbA, hA, hKx, hKm, hdis, hL⟩ := K
  obtain ⟨hPx, hDx, hPm, hDm, hS⟩ := hw
  have hsim := hs
  obtain ⟨π0, A0, hs0⟩ := hs
  have hox := hs0.1
  have hom := hs0.2.1
  refine lv_aload_n hx hb dL_law_311 rfl (lv_at hl 1 rfl) ?_
  refine lv_aload_n hx hb dL_law_312 rfl (lv_at hl 0 rfl) ?_
  refine lv_iload_n hx hb dL_law_313 rfl (lv_at hl 3 rfl) ?_
  refine lv_iconst (v := 1) hx hb dL_law_314 (by decide) ?_
  refine lv_iadd hx hb dL_law_315 ?_
  refine lv_tope (nI_add i 1) ?_
  refine xa_sld hx hb hX hbl hbA hS (i + 1) rfl (by omega) (by omega) dL_law_316 ?_
  refine lv_aload_n hx hb dL_law_317 rfl (lv_at hl 0 rfl) ?_
  refine lv_iload_n hx hb dL_law_318 rfl (lv_at hl 3 rfl) ?_
  refine lv_iconst (v := 2) hx hb dL_law_319 (by decide) ?_
  refine lv_iadd hx hb dL_law_320 ?_
  refine lv_tope (nI_add i 2) ?_
  refine xa_sld hx hb hX hbl hbA hS (i + 2) rfl (by omega) (by omega) dL_law_321 ?_
  refine cl_i (D := (dC, dI)) (wf := wX qx bx cx) (wg := wM qm bm cm) hx hb hml hown hts (metX0_setValue l dC dI qx bx cx _ σ (xs (i + 1)) (xs (i + 2)) hox) (cwV 2 hts (lw_V q146 q147 q148 q26 q149) rfl rfl rfl (by decide +kernel) ⟨Nat.le_of_ble_eq_true rfl, Nat.le_of_ble_eq_true rfl⟩) hKx hPx hDx hPm rfl rfl hdis hS hA 0 0 rfl rfl rfl hl.1 rfl (lv_room (Nat.le_of_ble_eq_true rfl)) dL_law_322 ⟨Nat.le_of_ble_eq_true rfl, Nat.le_of_ble_eq_true rfl⟩ (fun H locs hPx hDx hPm hS => ?_)
  obtain ⟨σ1, eσ1⟩ : ∃ z : XS, z = (x_setValue σ (xs (i + 1)) (xs (i + 2))).2 := ⟨_, rfl⟩
  rw [← eσ1] at hPx hDx
  refine lv_aload_n hx hb dL_law_325 rfl (lv_at hl 2 rfl) ?_
  refine lv_aload_n hx hb dL_law_326 rfl (lv_at hl 0 rfl) ?_
  refine lv_iload_n hx hb dL_law_327 rfl (lv_at hl 3 rfl) ?_
  refine lv_iconst (v := 1) hx hb dL_law_328 (by decide) ?_
  refine lv_iadd hx hb dL_law_329 ?_
  refine lv_tope (nI_add i 1) ?_
  refine xa_sld hx hb hX hbl hbA hS (i + 1) rfl (by omega) (by omega) dL_law_330 ?_
  refine lv_aload_n hx hb dL_law_331 rfl (lv_at hl 0 rfl) ?_
  refine lv_iload_n hx hb dL_law_332 rfl (lv_at hl 3 rfl) ?_
  refine lv_iconst (v := 2) hx hb dL_law_333 (by decide) ?_
  refine lv_iadd hx hb dL_law_334 ?_
  refine lv_tope (nI_add i 2) ?_
  refine xa_sld hx hb hX hbl hbA hS (i + 2) rfl (by omega) (by omega) dL_law_335 ?_
  refine cl_i (D := (dC, dI)) (wf := wM qm bm cm) (wg := wX qx bx cx) hx hb hml hown hts (metX1_setValue l dC dI qm bm cm _ μ (xs (i + 1)) (xs (i + 2)) hom) (cwV 2 hts (lw_V q286 q287 q288 q27 q289) rfl rfl rfl (by decide +kernel) ⟨Nat.le_of_ble_eq_true rfl, Nat.le_of_ble_eq_true rfl⟩) hKm hPm hDm hPx rfl rfl (fun z z1 z2 => hdis z z2 z1) hS hA 0 1 rfl rfl rfl hl.1 rfl (lv_room (Nat.le_of_ble_eq_true rfl)) dL_law_336 ⟨Nat.le_of_ble_eq_true rfl, Nat.le_of_ble_eq_true rfl⟩ (fun H locs hPm hDm hPx hS => ?_)
  obtain ⟨μ1, eμ1⟩ : ∃ z : XS, z = (m_setValue μ (xs (i + 1)) (xs (i + 2))).2 := ⟨_, rfl⟩
  rw [← eμ1] at hPm hDm
  refine lv_icmp_eq (tgt := 439) hx hb dL_law_339 (by decide) (fun c_ => ?_) (fun c_ => ?_)
  · exact hk σ1 μ1 _ _ ls (by rw [eσ1, eμ1]; exact (op_setValue hsim (xs (i + 1)) (xs (i + 2))).2) ⟨hPx, hDx, hPm, hDm, hS⟩ hl
  · exact absurd (op_setValue hsim (xs (i + 1)) (xs (i + 2))).1 c_

set_option maxHeartbeats 4000000 in
theorem law_c8 {p : Program} {l : Launch} {e : Env} {s : State} {m : MethodId} {below : List Frame} {meth : Method} {c : Code} {b0 L : Nat} {xs : Nat → Int32} {dC : Nat → ClassId} {dI : Nat → Nat → Nat} {A : Nat → Prop} {qx qm : Nat} {bx bm : Nat → Nat} {cx cm : Nat → ClassId} {Q : State → Prop} (K : LC p s m c b0 L xs dC dI A qx qm bx bm cx cm) {i : Nat} (hi : i + 4 ≤ L) {σ μ : XS} (hs : SimR σ μ) {H : Heap} {locs : List Loc} (hw : LW s dC dI A qx qm bx bm cx cm σ μ H locs) {ls : Array Slot} (hl : lv_has ls 4 [(0, .ref b0), (1, .ref qx), (2, .ref qm), (3, .int (nI i))]) (hk : ∀ (σ μ : XS) (H : Heap) (locs : List Loc) (ls : Array Slot), SimR σ μ → LW s dC dI A qx qm bx bm cx cm σ μ H locs → lv_has ls 4 [(0, .ref b0), (1, .ref qx), (2, .ref qm), (3, .int (nI i))] → W p l e room_1 s m #[Value.ref b0] below meth c H locs 15 224 Q (F0 m 439 ls [])) : W p l e room_1 s m #[Value.ref b0] below meth c H locs 15 224 Q (F0 m 344 ls []) := by
  obtain ⟨hx, hb, hml, hown, hts, hX, hbl, hbA, hA, hKx, hKm, hdis, hL⟩ := K
  obtain ⟨hPx, hDx, hPm, hDm, hS⟩ := hw
  have hsim := hs
  obtain ⟨π0, A0, hs0⟩ := hs
  have hox := hs0.1
  have hom := hs0.2.1
  refine lv_aload_n hx hb dL_law_344 rfl (lv_at hl 1 rfl) ?_
  refine lv_aload_n hx hb dL_law_345 rfl (lv_at hl 0 rfl) ?_
  refine lv_iload_n hx hb dL_law_346 rfl (lv_at hl 3 rfl) ?_
  refine lv_iconst (v := 1) hx hb dL_law_347 (by decide) ?_
  refine lv_iadd hx hb dL_law_348 ?_
  refine lv_tope (nI_add i 1) ?_
  refine xa_sld hx hb hX hbl hbA hS (i + 1) rfl (by omega) (by omega) dL_law_349 ?_
  refine lv_aload_n hx hb dL_law_350 rfl (lv_at hl 0 rfl) ?_
  refine lv_iload_n hx hb dL_law_351 rfl (lv_at hl 3 rfl) ?_
  refine lv_iconst (v := 2) hx hb dL_law_352 (by decide) ?_
  refine lv_iadd hx hb dL_law_353 ?_
  refine lv_tope (nI_add i 2) ?_
  refine xa_sld hx hb hX hbl hbA hS (i + 2) rfl (by omega) (by omega) dL_law_354 ?_
  refine cl_i (D := (dC, dI)) (wf := wX qx bx cx) (wg := wM qm bm cm) hx hb hml hown hts (metX0_same l dC dI qx bx cx _ σ (xs (i + 1)) (xs (i + 2)) ) (cwV 2 hts (lw_V q150 q151 q152 q26 q153) rfl rfl rfl (by decide +kernel) ⟨Nat.le_of_ble_eq_true rfl, Nat.le_of_ble_eq_true rfl⟩) hKx hPx hDx hPm rfl rfl hdis hS hA 0 0 rfl rfl rfl hl.1 rfl (lv_room (Nat.le_of_ble_eq_true rfl)) dL_law_355 ⟨Nat.le_of_ble_eq_true rfl, Nat.le_of_ble_eq_true rfl⟩ (fun H locs hPx hDx hPm hS => ?_)
  refine lv_aload_n hx hb dL_law_358 rfl (lv_at hl 2 rfl) ?_
  refine lv_aload_n hx hb dL_law_359 rfl (lv_at hl 0 rfl) ?_
  refine lv_iload_n hx hb dL_law_360 rfl (lv_at hl 3 rfl) ?_
  refine lv_iconst (v := 1) hx hb dL_law_361 (by decide) ?_
  refine lv_iadd hx hb dL_law_362 ?_
  refine lv_tope (nI_add i 1) ?_
  refine xa_sld hx hb hX hbl hbA hS (i + 1) rfl (by omega) (by omega) dL_law_363 ?_
  refine lv_aload_n hx hb dL_law_364 rfl (lv_at hl 0 rfl) ?_
  refine lv_iload_n hx hb dL_law_365 rfl (lv_at hl 3 rfl) ?_
  refine lv_iconst (v := 2) hx hb dL_law_366 (by decide) ?_
  refine lv_iadd hx hb dL_law_367 ?_
  refine lv_tope (nI_add i 2) ?_
  refine xa_sld hx hb hX hbl hbA hS (i + 2) rfl (by omega) (by omega) dL_law_368 ?_
  refine cl_i (D := (dC, dI)) (wf := wM qm bm cm) (wg := wX qx bx cx) hx hb hml hown hts (metX1_same l dC dI qm bm cm _ μ (xs (i + 1)) (xs (i + 2)) ) (cwV 2 hts (lw_V q290 q291 q292 q27 q293) rfl rfl rfl (by decide +kernel) ⟨Nat.le_of_ble_eq_true rfl, Nat.le_of_ble_eq_true rfl⟩) hKm hPm hDm hPx rfl rfl (fun z z1 z2 => hdis z z2 z1) hS hA 0 1 rfl rfl rfl hl.1 rfl (lv_room (Nat.le_of_ble_eq_true rfl)) dL_law_369 ⟨Nat.le_of_ble_eq_true rfl, Nat.le_of_ble_eq_true rfl⟩ (fun H locs hPm hDm hPx hS => ?_)
  refine lv_icmp_eq (tgt := 439) hx hb dL_law_372 (by decide) (fun c_ => ?_) (fun c_ => ?_)
  · exact hk σ μ _ _ ls hsim ⟨hPx, hDx, hPm, hDm, hS⟩ hl
  · exact absurd (op_same hsim (xs (i + 1)) (xs (i + 2))) c_

set_option maxHeartbeats 4000000 in
theorem law_c9 {p : Program} {l : Launch} {e : Env} {s : State} {m : MethodId} {below : List Frame} {meth : Method} {c : Code} {b0 L : Nat} {xs : Nat → Int32} {dC : Nat → ClassId} {dI : Nat → Nat → Nat} {A : Nat → Prop} {qx qm : Nat} {bx bm : Nat → Nat} {cx cm : Nat → ClassId} {Q : State → Prop} (K : LC p s m c b0 L xs dC dI A qx qm bx bm cx cm) {i : Nat} (hi : i + 4 ≤ L) {σ μ : XS} (hs : SimR σ μ) {H : Heap} {locs : List Loc} (hw : LW s dC dI A qx qm bx bm cx cm σ μ H locs) {ls : Array Slot} (hl : lv_has ls 4 [(0, .ref b0), (1, .ref qx), (2, .ref qm), (3, .int (nI i))]) (hk : ∀ (σ μ : XS) (H : Heap) (locs : List Loc) (ls : Array Slot), SimR σ μ → LW s dC dI A qx qm bx bm cx cm σ μ H locs → lv_has ls 4 [(0, .ref b0), (1, .ref qx), (2, .ref qm), (3, .int (nI i))] → W p l e room_1 s m #[Value.ref b0] below meth c H locs 15 224 Q (F0 m 439 ls [])) : W p l e room_1 s m #[Value.ref b0] below meth c H locs 15 224 Q (F0 m 377 ls []) := by
  obtain ⟨hx, hb, hml, hown, hts, hX, hbl, hbA, hA, hKx, hKm, hdis, hL⟩ := K
  obtain ⟨hPx, hDx, hPm, hDm, hS⟩ := hw
  have hsim := hs
  obtain ⟨π0, A0, hs0⟩ := hs
  have hox := hs0.1
  have hom := hs0.2.1
  refine lv_aload_n hx hb dL_law_377 rfl (lv_at hl 1 rfl) ?_
  refine cl_i (D := (dC, dI)) (wf := wX qx bx cx) (wg := wM qm bm cm) hx hb hml hown hts (metX0_commit l dC dI qx bx cx _ σ hox) (cwV 0 hts (lw_V q154 q155 q156 q26 q157) rfl rfl rfl (by decide +kernel) ⟨Nat.le_of_ble_eq_true rfl, Nat.le_of_ble_eq_true rfl⟩) hKx hPx hDx hPm rfl rfl hdis hS hA 0 0 rfl rfl rfl hl.1 rfl (lv_room (Nat.le_of_ble_eq_true rfl)) dL_law_378 ⟨Nat.le_of_ble_eq_true rfl, Nat.le_of_ble_eq_true rfl⟩ (fun H locs hPx hDx hPm hS => ?_)
  obtain ⟨σ1, eσ1⟩ : ∃ z : XS, z = (x_commit σ).2 := ⟨_, rfl⟩
  rw [← eσ1] at hPx hDx
  refine lv_aload_n hx hb dL_law_381 rfl (lv_at hl 2 rfl) ?_
  refine cl_i (D := (dC, dI)) (wf := wM qm bm cm) (wg := wX qx bx cx) hx hb hml hown hts (metX1_commit l dC dI qm bm cm _ μ ) (cwV 0 hts (lw_V q294 q295 q296 q27 q297) rfl rfl rfl (by decide +kernel) ⟨Nat.le_of_ble_eq_true rfl, Nat.le_of_ble_eq_true rfl⟩) hKm hPm hDm hPx rfl rfl (fun z z1 z2 => hdis z z2 z1) hS hA 0 1 rfl rfl rfl hl.1 rfl (lv_room (Nat.le_of_ble_eq_true rfl)) dL_law_382 ⟨Nat.le_of_ble_eq_true rfl, Nat.le_of_ble_eq_true rfl⟩ (fun H locs hPm hDm hPx hS => ?_)
  obtain ⟨μ1, eμ1⟩ : ∃ z : XS, z = (m_commit μ).2 := ⟨_, rfl⟩
  rw [← eμ1] at hPm hDm
  refine lv_icmp_eq (tgt := 439) hx hb dL_law_385 (by decide) (fun c_ => ?_) (fun c_ => ?_)
  · exact hk σ1 μ1 _ _ ls (by rw [eσ1, eμ1]; exact (op_commit hsim).2) ⟨hPx, hDx, hPm, hDm, hS⟩ hl
  · exact absurd (op_commit hsim).1 c_

set_option maxHeartbeats 4000000 in
theorem law_c10 {p : Program} {l : Launch} {e : Env} {s : State} {m : MethodId} {below : List Frame} {meth : Method} {c : Code} {b0 L : Nat} {xs : Nat → Int32} {dC : Nat → ClassId} {dI : Nat → Nat → Nat} {A : Nat → Prop} {qx qm : Nat} {bx bm : Nat → Nat} {cx cm : Nat → ClassId} {Q : State → Prop} (K : LC p s m c b0 L xs dC dI A qx qm bx bm cx cm) {i : Nat} (hi : i + 4 ≤ L) {σ μ : XS} (hs : SimR σ μ) {H : Heap} {locs : List Loc} (hw : LW s dC dI A qx qm bx bm cx cm σ μ H locs) {ls : Array Slot} (hl : lv_has ls 4 [(0, .ref b0), (1, .ref qx), (2, .ref qm), (3, .int (nI i))]) (hk : ∀ (σ μ : XS) (H : Heap) (locs : List Loc) (ls : Array Slot), SimR σ μ → LW s dC dI A qx qm bx bm cx cm σ μ H locs → lv_has ls 4 [(0, .ref b0), (1, .ref qx), (2, .ref qm), (3, .int (nI i))] → W p l e room_1 s m #[Value.ref b0] below meth c H locs 15 224 Q (F0 m 439 ls [])) : W p l e room_1 s m #[Value.ref b0] below meth c H locs 15 224 Q (F0 m 390 ls []) := by
  obtain ⟨hx, hb, hml, hown, hts, hX, hbl, hbA, hA, hKx, hKm, hdis, hL⟩ := K
  obtain ⟨hPx, hDx, hPm, hDm, hS⟩ := hw
  have hsim := hs
  obtain ⟨π0, A0, hs0⟩ := hs
  have hox := hs0.1
  have hom := hs0.2.1
  refine lv_aload_n hx hb dL_law_390 rfl (lv_at hl 1 rfl) ?_
  refine cl_i (D := (dC, dI)) (wf := wX qx bx cx) (wg := wM qm bm cm) hx hb hml hown hts (metX0_abort l dC dI qx bx cx _ σ ) (cwV 0 hts (lw_V q178 q179 q180 q26 q181) rfl rfl rfl (by decide +kernel) ⟨Nat.le_of_ble_eq_true rfl, Nat.le_of_ble_eq_true rfl⟩) hKx hPx hDx hPm rfl rfl hdis hS hA 0 0 rfl rfl rfl hl.1 rfl (lv_room (Nat.le_of_ble_eq_true rfl)) dL_law_391 ⟨Nat.le_of_ble_eq_true rfl, Nat.le_of_ble_eq_true rfl⟩ (fun H locs hPx hDx hPm hS => ?_)
  obtain ⟨σ1, eσ1⟩ : ∃ z : XS, z = (x_abort σ).2 := ⟨_, rfl⟩
  rw [← eσ1] at hPx hDx
  refine lv_aload_n hx hb dL_law_394 rfl (lv_at hl 2 rfl) ?_
  refine cl_i (D := (dC, dI)) (wf := wM qm bm cm) (wg := wX qx bx cx) hx hb hml hown hts (metX1_abort l dC dI qm bm cm _ μ ) (cwV 0 hts (lw_V q306 q307 q308 q27 q309) rfl rfl rfl (by decide +kernel) ⟨Nat.le_of_ble_eq_true rfl, Nat.le_of_ble_eq_true rfl⟩) hKm hPm hDm hPx rfl rfl (fun z z1 z2 => hdis z z2 z1) hS hA 0 1 rfl rfl rfl hl.1 rfl (lv_room (Nat.le_of_ble_eq_true rfl)) dL_law_395 ⟨Nat.le_of_ble_eq_true rfl, Nat.le_of_ble_eq_true rfl⟩ (fun H locs hPm hDm hPx hS => ?_)
  obtain ⟨μ1, eμ1⟩ : ∃ z : XS, z = (m_abort μ).2 := ⟨_, rfl⟩
  rw [← eμ1] at hPm hDm
  refine lv_icmp_eq (tgt := 439) hx hb dL_law_398 (by decide) (fun c_ => ?_) (fun c_ => ?_)
  · exact hk σ1 μ1 _ _ ls (by rw [eσ1, eμ1]; exact (op_abort hsim).2) ⟨hPx, hDx, hPm, hDm, hS⟩ hl
  · exact absurd (op_abort hsim).1 c_

set_option maxHeartbeats 4000000 in
theorem law_c11 {p : Program} {l : Launch} {e : Env} {s : State} {m : MethodId} {below : List Frame} {meth : Method} {c : Code} {b0 L : Nat} {xs : Nat → Int32} {dC : Nat → ClassId} {dI : Nat → Nat → Nat} {A : Nat → Prop} {qx qm : Nat} {bx bm : Nat → Nat} {cx cm : Nat → ClassId} {Q : State → Prop} (K : LC p s m c b0 L xs dC dI A qx qm bx bm cx cm) {i : Nat} (hi : i + 4 ≤ L) {σ μ : XS} (hs : SimR σ μ) {H : Heap} {locs : List Loc} (hw : LW s dC dI A qx qm bx bm cx cm σ μ H locs) {ls : Array Slot} (hl : lv_has ls 4 [(0, .ref b0), (1, .ref qx), (2, .ref qm), (3, .int (nI i))]) (hk : ∀ (σ μ : XS) (H : Heap) (locs : List Loc) (ls : Array Slot), SimR σ μ → LW s dC dI A qx qm bx bm cx cm σ μ H locs → lv_has ls 4 [(0, .ref b0), (1, .ref qx), (2, .ref qm), (3, .int (nI i))] → W p l e room_1 s m #[Value.ref b0] below meth c H locs 15 224 Q (F0 m 439 ls [])) : W p l e room_1 s m #[Value.ref b0] below meth c H locs 15 224 Q (F0 m 403 ls []) := by
  obtain ⟨hx, hb, hml, hown, hts, hX, hbl, hbA, hA, hKx, hKm, hdis, hL⟩ := K
  obtain ⟨hPx, hDx, hPm, hDm, hS⟩ := hw
  have hsim := hs
  obtain ⟨π0, A0, hs0⟩ := hs
  have hox := hs0.1
  have hom := hs0.2.1
  refine lv_aload_n hx hb dL_law_403 rfl (lv_at hl 1 rfl) ?_
  refine lv_aload_n hx hb dL_law_404 rfl (lv_at hl 0 rfl) ?_
  refine lv_iload_n hx hb dL_law_405 rfl (lv_at hl 3 rfl) ?_
  refine lv_iconst (v := 1) hx hb dL_law_406 (by decide) ?_
  refine lv_iadd hx hb dL_law_407 ?_
  refine lv_tope (nI_add i 1) ?_
  refine xa_sld hx hb hX hbl hbA hS (i + 1) rfl (by omega) (by omega) dL_law_408 ?_
  refine cl_i (D := (dC, dI)) (wf := wX qx bx cx) (wg := wM qm bm cm) hx hb hml hown hts (metX0_crash l dC dI qx bx cx _ σ (xs (i + 1)) hox) (cwV 1 hts (lw_V q186 q187 q188 q26 q189) rfl rfl rfl (by decide +kernel) ⟨Nat.le_of_ble_eq_true rfl, Nat.le_of_ble_eq_true rfl⟩) hKx hPx hDx hPm rfl rfl hdis hS hA 0 0 rfl rfl rfl hl.1 rfl (lv_room (Nat.le_of_ble_eq_true rfl)) dL_law_409 ⟨Nat.le_of_ble_eq_true rfl, Nat.le_of_ble_eq_true rfl⟩ (fun H locs hPx hDx hPm hS => ?_)
  obtain ⟨σ1, eσ1⟩ : ∃ z : XS, z = (x_crash σ (xs (i + 1))).2 := ⟨_, rfl⟩
  rw [← eσ1] at hPx hDx
  refine lv_aload_n hx hb dL_law_412 rfl (lv_at hl 2 rfl) ?_
  refine lv_aload_n hx hb dL_law_413 rfl (lv_at hl 0 rfl) ?_
  refine lv_iload_n hx hb dL_law_414 rfl (lv_at hl 3 rfl) ?_
  refine lv_iconst (v := 1) hx hb dL_law_415 (by decide) ?_
  refine lv_iadd hx hb dL_law_416 ?_
  refine lv_tope (nI_add i 1) ?_
  refine xa_sld hx hb hX hbl hbA hS (i + 1) rfl (by omega) (by omega) dL_law_417 ?_
  refine cl_i (D := (dC, dI)) (wf := wM qm bm cm) (wg := wX qx bx cx) hx hb hml hown hts (metX1_crash l dC dI qm bm cm _ μ (xs (i + 1)) ) (cwV 1 hts (lw_V q314 q315 q316 q27 q317) rfl rfl rfl (by decide +kernel) ⟨Nat.le_of_ble_eq_true rfl, Nat.le_of_ble_eq_true rfl⟩) hKm hPm hDm hPx rfl rfl (fun z z1 z2 => hdis z z2 z1) hS hA 0 1 rfl rfl rfl hl.1 rfl (lv_room (Nat.le_of_ble_eq_true rfl)) dL_law_418 ⟨Nat.le_of_ble_eq_true rfl, Nat.le_of_ble_eq_true rfl⟩ (fun H locs hPm hDm hPx hS => ?_)
  obtain ⟨μ1, eμ1⟩ : ∃ z : XS, z = (m_crash μ (xs (i + 1))).2 := ⟨_, rfl⟩
  rw [← eμ1] at hPm hDm
  refine lv_icmp_eq (tgt := 439) hx hb dL_law_421 (by decide) (fun c_ => ?_) (fun c_ => ?_)
  · exact hk σ1 μ1 _ _ ls (by rw [eσ1, eμ1]; exact (op_crash hsim (xs (i + 1))).2) ⟨hPx, hDx, hPm, hDm, hS⟩ hl
  · exact absurd (op_crash hsim (xs (i + 1))).1 c_

set_option maxHeartbeats 4000000 in
theorem law_c12 {p : Program} {l : Launch} {e : Env} {s : State} {m : MethodId} {below : List Frame} {meth : Method} {c : Code} {b0 L : Nat} {xs : Nat → Int32} {dC : Nat → ClassId} {dI : Nat → Nat → Nat} {A : Nat → Prop} {qx qm : Nat} {bx bm : Nat → Nat} {cx cm : Nat → ClassId} {Q : State → Prop} (K : LC p s m c b0 L xs dC dI A qx qm bx bm cx cm) {i : Nat} (hi : i + 4 ≤ L) {σ μ : XS} (hs : SimR σ μ) {H : Heap} {locs : List Loc} (hw : LW s dC dI A qx qm bx bm cx cm σ μ H locs) {ls : Array Slot} (hl : lv_has ls 4 [(0, .ref b0), (1, .ref qx), (2, .ref qm), (3, .int (nI i))]) (hk : ∀ (σ μ : XS) (H : Heap) (locs : List Loc) (ls : Array Slot), SimR σ μ → LW s dC dI A qx qm bx bm cx cm σ μ H locs → lv_has ls 4 [(0, .ref b0), (1, .ref qx), (2, .ref qm), (3, .int (nI i))] → W p l e room_1 s m #[Value.ref b0] below meth c H locs 15 224 Q (F0 m 439 ls [])) : W p l e room_1 s m #[Value.ref b0] below meth c H locs 15 224 Q (F0 m 426 ls []) := by
  obtain ⟨hx, hb, hml, hown, hts, hX, hbl, hbA, hA, hKx, hKm, hdis, hL⟩ := K
  obtain ⟨hPx, hDx, hPm, hDm, hS⟩ := hw
  have hsim := hs
  obtain ⟨π0, A0, hs0⟩ := hs
  have hox := hs0.1
  have hom := hs0.2.1
  refine lv_aload_n hx hb dL_law_426 rfl (lv_at hl 1 rfl) ?_
  refine cl_i (D := (dC, dI)) (wf := wX qx bx cx) (wg := wM qm bm cm) hx hb hml hown hts (metX0_reachable l dC dI qx bx cx _ σ ) (cwV 0 hts (lw_V q194 q195 q196 q26 q197) rfl rfl rfl (by decide +kernel) ⟨Nat.le_of_ble_eq_true rfl, Nat.le_of_ble_eq_true rfl⟩) hKx hPx hDx hPm rfl rfl hdis hS hA 0 0 rfl rfl rfl hl.1 rfl (lv_room (Nat.le_of_ble_eq_true rfl)) dL_law_427 ⟨Nat.le_of_ble_eq_true rfl, Nat.le_of_ble_eq_true rfl⟩ (fun H locs hPx hDx hPm hS => ?_)
  refine lv_aload_n hx hb dL_law_430 rfl (lv_at hl 2 rfl) ?_
  refine cl_i (D := (dC, dI)) (wf := wM qm bm cm) (wg := wX qx bx cx) hx hb hml hown hts (metX1_reachable l dC dI qm bm cm _ μ ) (cwV 0 hts (lw_V q320 q321 q322 q27 q323) rfl rfl rfl (by decide +kernel) ⟨Nat.le_of_ble_eq_true rfl, Nat.le_of_ble_eq_true rfl⟩) hKm hPm hDm hPx rfl rfl (fun z z1 z2 => hdis z z2 z1) hS hA 0 1 rfl rfl rfl hl.1 rfl (lv_room (Nat.le_of_ble_eq_true rfl)) dL_law_431 ⟨Nat.le_of_ble_eq_true rfl, Nat.le_of_ble_eq_true rfl⟩ (fun H locs hPm hDm hPx hS => ?_)
  refine lv_icmp_eq (tgt := 439) hx hb dL_law_434 (by decide) (fun c_ => ?_) (fun c_ => ?_)
  · exact hk σ μ _ _ ls hsim ⟨hPx, hDx, hPm, hDm, hS⟩ hl
  · exact absurd (op_reachable hsim) c_
end
section
set_option maxRecDepth 100000
set_option maxHeartbeats 4000000 in
theorem law_loop {p : Program} {l : Launch} {e : Env} {s : State} {m : MethodId} {below : List Frame} {meth : Method} {c : Code} {b0 L : Nat} {xs : Nat → Int32} {dC : Nat → ClassId} {dI : Nat → Nat → Nat} {A : Nat → Prop} {qx qm : Nat} {bx bm : Nat → Nat} {cx cm : Nat → ClassId} (K : LC p s m c b0 L xs dC dI A qx qm bx bm cx cm) (hAe : ∀ q : Nat, A q → s.heap.size ≤ q) (hr : meth.sig.returnType = ret) (hlocks : meth.locks = false) : ∀ (n i : Nat) (σ μ : XS) (H : Heap) (locs : List Loc) (ls : Array Slot), L < i + 4 * n → i ≤ 256 → SimR σ μ → LW s dC dI A qx qm bx bm cx cm σ μ H locs → lv_has ls 4 [(0, .ref b0), (1, .ref qx), (2, .ref qm), (3, .int (nI i))] → W p l e room_1 s m #[Value.ref b0] below meth c H locs 15 224 (lw_Z below #[Value.ref b0] s) (F0 m 18 ls []) := by
  obtain ⟨hx, hb, hml, hown, hts, hX, hbl, hbA, hA, hKx, hKm, hdis, hL⟩ := id K
  intro n
  induction n with
  | zero =>
    intro i σ μ H locs ls hn hi hs hw hl
    have hS := hw.2.2.2.2
    refine lv_iload_n hx hb dL_law_18 rfl (lv_at hl 3 rfl) ?_
    refine lv_aload_n hx hb dL_law_19 rfl (lv_at hl 0 rfl) ?_
    refine va_slen hx hb hX hbl hbA hS dL_law_20 ?_
    refine lv_iconst (v := 4) hx hb dL_law_21 (by decide) ?_
    refine lv_isub hx hb dL_law_22 ?_
    refine lv_icmp_gt (tgt := 445) hx hb dL_law_23 (by decide) (fun c_23 => ?_) (fun c_23 => ?_)
    · refine lv_iconst (v := 1) hx hb dL_law_445 (by decide) ?_
      refine va_forget (fun q hq => hAe _ (hS.2.2 q hq)) ?_
      refine W.widen (k := 600000) (n := 7290000) (Nat.le_of_ble_eq_true rfl) (Nat.le_of_ble_eq_true rfl) ?_
      exact lw_ret hx hb hr hlocks dL_law_446
    · exact absurd (law_out hL (by omega) c_23) (by omega)
  | succ n ih =>
    intro i σ μ H locs ls hn hi hs hw hl
    have hS := hw.2.2.2.2
    refine lv_iload_n hx hb dL_law_18 rfl (lv_at hl 3 rfl) ?_
    refine lv_aload_n hx hb dL_law_19 rfl (lv_at hl 0 rfl) ?_
    refine va_slen hx hb hX hbl hbA hS dL_law_20 ?_
    refine lv_iconst (v := 4) hx hb dL_law_21 (by decide) ?_
    refine lv_isub hx hb dL_law_22 ?_
    refine lv_icmp_gt (tgt := 445) hx hb dL_law_23 (by decide) (fun c_23 => ?_) (fun c_23 => ?_)
    · refine lv_iconst (v := 1) hx hb dL_law_445 (by decide) ?_
      refine va_forget (fun q hq => hAe _ (hS.2.2 q hq)) ?_
      refine W.widen (k := 600000) (n := 7290000) (Nat.le_of_ble_eq_true rfl) (Nat.le_of_ble_eq_true rfl) ?_
      exact lw_ret hx hb hr hlocks dL_law_446
    · have h4 : i + 4 ≤ L := law_out hL (by omega) c_23
      have hk : ∀ (σ μ : XS) (H : Heap) (locs : List Loc) (ls : Array Slot), SimR σ μ → LW s dC dI A qx qm bx bm cx cm σ μ H locs → lv_has ls 4 [(0, .ref b0), (1, .ref qx), (2, .ref qm), (3, .int (nI i))] → W p l e room_1 s m #[Value.ref b0] below meth c H locs 15 224 (lw_Z below #[Value.ref b0] s) (F0 m 439 ls []) := by
        intro σ μ H locs ls hs hw hl
        refine lv_iinc (v := nI (i + 4)) (lv' := [(3, .int (nI (i + 4))), (0, .ref b0), (1, .ref qx), (2, .ref qm)]) hx hb dL_law_439 hl (k := 3) rfl (law_inc i) (by decide) rfl (fun ls hl => ?_)
        refine lv_goto (tgt := 18) hx hb dL_law_442 (by decide) ?_
        exact ih (i + 4) σ μ H locs ls (by omega) (by omega) hs hw (lv_sub hl [1, 2, 3, 0] rfl)
      refine lv_aload_n hx hb dL_law_26 rfl (lv_at hl 0 rfl) ?_
      refine lv_iload_n hx hb dL_law_27 rfl (lv_at hl 3 rfl) ?_
      refine xa_sld hx hb hX hbl hbA hS i rfl (by omega) (by omega) dL_law_28 ?_
      refine lv_bipush (v := 15) hx hb dL_law_29 (by decide) ?_
      refine lv_iand hx hb dL_law_31 ?_
      obtain ⟨j, hj, ej⟩ := pk_andE (xs i) (m := 15) 4 (by decide)
      refine lv_tope ej ?_
      have hj : j < 16 := hj
      rcases (show j = 0 ∨ j = 1 ∨ j = 2 ∨ j = 3 ∨ j = 4 ∨ j = 5 ∨ j = 6 ∨ j = 7 ∨ j = 8 ∨ j = 9 ∨ j = 10 ∨ j = 11 ∨ j = 12 ∨ j = 13 ∨ j = 14 ∨ j = 15 by omega) with rfl | rfl | rfl | rfl | rfl | rfl | rfl | rfl | rfl | rfl | rfl | rfl | rfl | rfl | rfl | rfl
      · refine lv_tableIn (off := 68) (tgt := 100) hx hb dL_law_32 (by decide +kernel) (by decide +kernel) (by decide +kernel) (by decide) ?_
        exact law_c0 K h4 hs hw hl hk
      · refine lv_tableIn (off := 101) (tgt := 133) hx hb dL_law_32 (by decide +kernel) (by decide +kernel) (by decide +kernel) (by decide) ?_
        exact law_c1 K h4 hs hw hl hk
      · refine lv_tableIn (off := 124) (tgt := 156) hx hb dL_law_32 (by decide +kernel) (by decide +kernel) (by decide +kernel) (by decide) ?_
        exact law_c2 K h4 hs hw hl hk
      · refine lv_tableIn (off := 147) (tgt := 179) hx hb dL_law_32 (by decide +kernel) (by decide +kernel) (by decide +kernel) (by decide) ?_
        exact law_c3 K h4 hs hw hl hk
      · refine lv_tableIn (off := 190) (tgt := 222) hx hb dL_law_32 (by decide +kernel) (by decide +kernel) (by decide +kernel) (by decide) ?_
        exact law_c4 K h4 hs hw hl hk
      · refine lv_tableIn (off := 233) (tgt := 265) hx hb dL_law_32 (by decide +kernel) (by decide +kernel) (by decide +kernel) (by decide) ?_
        exact law_c5 K h4 hs hw hl hk
      · refine lv_tableIn (off := 256) (tgt := 288) hx hb dL_law_32 (by decide +kernel) (by decide +kernel) (by decide +kernel) (by decide) ?_
        exact law_c6 K h4 hs hw hl hk
      · refine lv_tableIn (off := 279) (tgt := 311) hx hb dL_law_32 (by decide +kernel) (by decide +kernel) (by decide +kernel) (by decide) ?_
        exact law_c7 K h4 hs hw hl hk
      · refine lv_tableIn (off := 312) (tgt := 344) hx hb dL_law_32 (by decide +kernel) (by decide +kernel) (by decide +kernel) (by decide) ?_
        exact law_c8 K h4 hs hw hl hk
      · refine lv_tableIn (off := 345) (tgt := 377) hx hb dL_law_32 (by decide +kernel) (by decide +kernel) (by decide +kernel) (by decide) ?_
        exact law_c9 K h4 hs hw hl hk
      · refine lv_tableIn (off := 358) (tgt := 390) hx hb dL_law_32 (by decide +kernel) (by decide +kernel) (by decide +kernel) (by decide) ?_
        exact law_c10 K h4 hs hw hl hk
      · refine lv_tableIn (off := 371) (tgt := 403) hx hb dL_law_32 (by decide +kernel) (by decide +kernel) (by decide +kernel) (by decide) ?_
        exact law_c11 K h4 hs hw hl hk
      · refine lv_tableIn (off := 394) (tgt := 426) hx hb dL_law_32 (by decide +kernel) (by decide +kernel) (by decide +kernel) (by decide) ?_
        exact law_c12 K h4 hs hw hl hk
      · refine lv_tableOut (tgt := 439) hx hb dL_law_32 (Or.inr (by decide +kernel)) (by decide) ?_
        exact hk σ μ H locs ls hs hw hl
      · refine lv_tableOut (tgt := 439) hx hb dL_law_32 (Or.inr (by decide +kernel)) (by decide) ?_
        exact hk σ μ H locs ls hs hw hl
      · refine lv_tableOut (tgt := 439) hx hb dL_law_32 (Or.inr (by decide +kernel)) (by decide) ?_
        exact hk σ μ H locs ls hs hw hl
end
section
set_option maxRecDepth 100000
set_option maxHeartbeats 4000000 in
/-- from the entry, for every script of at most 256 ints, the law comes to its end with true -/
theorem whole_start {p : Program} {e : Env} {s : State} {m : MethodId} {below : List Frame} {meth : Method} {c : Code} (l : Launch) {b L : Nat} {xs : Nat → Int32} (hL : L ≤ 256) (C0 : lw_At p s m meth c b L xs) : W p l e room_1 s m #[Value.ref b] below meth c s.heap [] 0 0 (lw_Z below #[Value.ref b] s) (entryFrame m ([Value.ref b] : List Value).toArray 4) := by
  obtain ⟨hx, hb, hr, hml, hown, hts0, hX, hbl, hlocks, hgv⟩ := C0
  have hts : ∀ w ∈ lw_all, w.before #[Value.ref b] s = true := fun w h => hts0 w (lw_all_tbl h)
  have hA : ∀ q : Nat, s.heap.size ≤ q → (fun q : Nat => s.heap.size ≤ q) q := fun _ h => h
  have hAe : ∀ q : Nat, (fun q : Nat => s.heap.size ≤ q) q → s.heap.size ≤ q := fun _ h => h
  have hbA : ¬ (fun q : Nat => s.heap.size ≤ q) b := Nat.not_le.mpr hbl
  generalize (fun q : Nat => s.heap.size ≤ q) = A at hA hAe hbA
  obtain ⟨c0_, iS0, hKn0⟩ := u_known (C := RX0) (T := TX0) (N := 17) (n := 17) hts in_X0 (hts _ q29)
  obtain ⟨c1_, iS1, hKn1⟩ := u_known (C := RX1) (T := TX1) (N := 7) (n := 7) hts in_X1 (hts _ q199)
  obtain ⟨dC, dI, hKc⟩ : ∃ (dC : Nat → ClassId) (dI : Nat → Nat → Nat), ∀ (k : Nat) (q : vw_C), vwCl[k]? = some q → u_Kn s q.1 q.2.1 q.2.2 (dC k) (dI k) := by
    refine ⟨fun k => if k = 0 then c0_ else c1_, fun k => if k = 0 then iS0 else iS1, ?_⟩
    intro k q hq
    match k, hq with
    | 0, hq => cases hq; exact hKn0
    | 1, hq => cases hq; exact hKn1
    | k + 2, hq => simp [vwCl] at hq
  have hS : va_S A s.heap s.heap [] := va_S.rf
  have hK : va_K (dC, dI) vwCl [] s := ⟨hKc, fun k q h => by simp at h⟩
  have hP : va_P (dC, dI) vwCl [] s.heap := fun k q h => by simp at h
  have hD : va_D A [] := ⟨fun i j p q h => by simp at h, fun k q h => by simp at h⟩
  have hl := lv_entry ([.ref b]) (n := 4) (Nat.le_of_ble_eq_true rfl)
  rw [lg_entry_eq]
  generalize (lg_sl ([.ref b]) ++ List.replicate (4 - (lg_sl ([.ref b])).length) Slot.unset).toArray = ls at hl ⊢
  have hl : lv_has ls 4 [(0, .ref b)] := hl
  refine va_new (D := (dC, dI)) (ci := 0) (fs := [.null, .null, .int 0, .int 0, .int 0, .null, .null, .null, .int 0, .int 0, .int 0, .int 0, .null, .null, .int 0, .int 0, .null]) (C := RX0) (T := TX0) (N := 17) hx hb hts in_X0 tyX0 tyX0_ok hown (hts _ q28) (hts _ q29) (hts _ q26) hK hP hD hS hA rfl (fun j hj => by rcases (show j = 0 ∨ j = 1 ∨ j = 2 ∨ j = 3 ∨ j = 4 ∨ j = 5 ∨ j = 6 ∨ j = 7 ∨ j = 8 ∨ j = 9 ∨ j = 10 ∨ j = 11 ∨ j = 12 ∨ j = 13 ∨ j = 14 ∨ j = 15 ∨ j = 16 by omega) with rfl | rfl | rfl | rfl | rfl | rfl | rfl | rfl | rfl | rfl | rfl | rfl | rfl | rfl | rfl | rfl | rfl <;> rfl) (Nat.le_of_ble_eq_true rfl) (Nat.le_of_ble_eq_true rfl) dL_law_0 (fun qx H hP hD hS => ?_)
  have hP : va_P (dC, dI) vwCl [(qx, .inr (0, [.null, .null, .int 0, .int 0, .int 0, .null, .null, .null, .int 0, .int 0, .int 0, .int 0, .null, .null, .int 0, .int 0, .null]))] H := hP
  have hD : va_D A [(qx, .inr (0, [.null, .null, .int 0, .int 0, .int 0, .null, .null, .null, .int 0, .int 0, .int 0, .int 0, .null, .null, .int 0, .int 0, .null]))] := hD
  refine W.widen (k := 1) (n := 17) (Nat.le_refl _) (Nat.le_refl _) ?_
  refine lv_dup hx hb dL_law_3 rfl ?_
  have hFc := va_free (wc := [(qx, .inr (0, [.null, .null, .int 0, .int 0, .int 0, .null, .null, .null, .int 0, .int 0, .int 0, .int 0, .null, .null, .int 0, .int 0, .null]))]) hD hS hA [0] rfl
  refine va_callv (va_runI (As := []) (rest := [.ref qx]) ⟨hx, hb, hml, hown, hts⟩ (metX0_init l dC dI qx H.size) (cwI 0 hts (lw_meth q32) rfl rfl rfl (hts _ q26) (hts _ q30) (hts _ q31) rfl (by decide +kernel) ⟨Nat.le_of_ble_eq_true rfl, Nat.le_of_ble_eq_true rfl⟩) ⟨fun a U g mk q => by obtain ⟨q0, q1, qP, qK, qD⟩ := q; exact ⟨q0, q1, qP, va_K.moved (u := U) (U := U.calling g mk a) (Vm.Alike.refl U.vm) qK, qD⟩, fun U hU hW => ⟨rfl, by rw [hU], by rw [hU]; exact hP, va_K.moved hW.alike hK, hD.weaken (fun _ _ _ _ => trivial)⟩⟩ rfl rfl hl.1 rfl (lv_room (Nat.le_of_ble_eq_true rfl)) dL_law_4 ⟨Nat.le_of_ble_eq_true rfl, Nat.le_of_ble_eq_true rfl⟩) hS (fun q _ h => hFc q h) hFc (fun u t H1 locs ht hvm hw1 hB hz1 hk1 hS => ?_)
  obtain ⟨bx, cx, σ⟩ := u
  have hw1 : σ = x_init := hw1
  subst hw1
  obtain ⟨hPx, hKx, hDx⟩ := hB
  rw [ht] at hPx
  have hKx := va_K.moved hvm.symm hKx
  have hPx : va_P (dC, dI) vwCl (wX qx bx cx x_init) H1 := hPx
  have hDx : va_D A (wX qx bx cx x_init) := hDx.weaken (fun _ z _ h => hFc z.1 h)
  refine W.widen (k := 9) (n := 141) (Nat.le_refl _) (Nat.le_refl _) ?_
  refine lv_astore_n (lv' := [(1, .ref qx), (0, .ref b)]) hx hb dL_law_7 rfl hl (by decide) rfl (fun ls hl => ?_)
  refine va_new (D := (dC, dI)) (ci := 1) (fs := [.null, .null, .int 0, .null, .null, .null, .int 0]) (C := RX1) (T := TX1) (N := 7) hx hb hts in_X1 tyX1 tyX1_ok hown (hts _ q198) (hts _ q199) (hts _ q27) hKx hPx hDx hS hA rfl (fun j hj => by rcases (show j = 0 ∨ j = 1 ∨ j = 2 ∨ j = 3 ∨ j = 4 ∨ j = 5 ∨ j = 6 by omega) with rfl | rfl | rfl | rfl | rfl | rfl | rfl <;> rfl) (Nat.le_of_ble_eq_true rfl) (Nat.le_of_ble_eq_true rfl) dL_law_8 (fun qm H hP hD hS => ?_)
  have hPx : va_P (dC, dI) vwCl (wX qx bx cx x_init) H := hP.sub [0, 1, 2, 3, 4, 5, 6, 7, 8] rfl
  have hDx : va_D A (wX qx bx cx x_init) := hD.sub [0, 1, 2, 3, 4, 5, 6, 7, 8] (by decide) rfl
  have hPm : va_P (dC, dI) vwCl [(qm, .inr (1, [.null, .null, .int 0, .null, .null, .null, .int 0]))] H := hP.sub [9] rfl
  have hDm : va_D A [(qm, .inr (1, [.null, .null, .int 0, .null, .null, .null, .int 0]))] := hD.sub [9] (by decide) rfl
  have hxm : ∀ z, z ∈ aX qx bx → z ≠ qm ∧ z < H.size := by
    have h9 : (wX qx bx cx x_init ++ [(qm, .inr (1, [.null, .null, .int 0, .null, .null, .null, .int 0]))])[9]? = some (qm, .inr (1, [.null, .null, .int 0, .null, .null, .null, .int 0])) := rfl
    have key : ∀ (k : Nat) (x : Nat × va_E), (wX qx bx cx x_init)[k]? = some x → x.1 ≠ qm ∧ x.1 < H.size := by
      intro k x hk
      have hlt : k < 9 := (List.getElem?_eq_some_iff.mp hk).1
      refine ⟨fun z => ?_, (hPx k x hk).lt⟩
      have h1 : (wX qx bx cx x_init ++ [(qm, .inr (1, [.null, .null, .int 0, .null, .null, .null, .int 0]))])[k]? = some x := by rw [List.getElem?_append_left hlt]; exact hk
      have := hD.1 k 9 x _ h1 h9 z
      omega
    intro z hz
    have hz : z ∈ (wX qx bx cx x_init).map Prod.fst := hz
    obtain ⟨x, hx, rfl⟩ := List.mem_map.mp hz
    obtain ⟨k, hk⟩ := List.getElem?_of_mem hx
    exact key k x hk
  refine W.widen (k := 10) (n := 148) (Nat.le_refl _) (Nat.le_refl _) ?_
  refine lv_dup hx hb dL_law_11 rfl ?_
  have hFc := va_free (wc := [(qm, .inr (1, [.null, .null, .int 0, .null, .null, .null, .int 0]))]) hDm hS hA [0] rfl
  refine va_callv (va_runI (As := []) (rest := [.ref qm]) ⟨hx, hb, hml, hown, hts⟩ (metX1_init l dC dI qm H.size) (cwI 0 hts (lw_meth q202) rfl rfl rfl (hts _ q27) (hts _ q200) (hts _ q201) rfl (by decide +kernel) ⟨Nat.le_of_ble_eq_true rfl, Nat.le_of_ble_eq_true rfl⟩) ⟨fun a U g mk q => by obtain ⟨q0, q1, qP, qK, qD⟩ := q; exact ⟨q0, q1, qP, va_K.moved (u := U) (U := U.calling g mk a) (Vm.Alike.refl U.vm) qK, qD⟩, fun U hU hW => ⟨rfl, by rw [hU], by rw [hU]; exact hPm, va_K.moved hW.alike hK, hDm.weaken (fun _ _ _ _ => trivial)⟩⟩ rfl rfl hl.1 rfl (lv_room (Nat.le_of_ble_eq_true rfl)) dL_law_12 ⟨Nat.le_of_ble_eq_true rfl, Nat.le_of_ble_eq_true rfl⟩) hS (fun q _ h => hFc q h) hFc (fun u t H1 locs ht hvm hw1 hB hz1 hk1 hS => ?_)
  obtain ⟨bm, cm, μ⟩ := u
  have hw1 : μ = m_init := hw1
  subst hw1
  obtain ⟨hPm, hKm, hDm⟩ := hB
  rw [ht] at hPm
  have hKm := va_K.moved hvm.symm hKm
  have hPm : va_P (dC, dI) vwCl (wM qm bm cm m_init) H1 := hPm
  have hDm : va_D (va_A [(qm, .inr (1, [.null, .null, .int 0, .null, .null, .null, .int 0]))] H.size) (wM qm bm cm m_init) := hDm
  have hin : ∀ z, va_A [(qm, .inr (1, [.null, .null, .int 0, .null, .null, .null, .int 0]))] H.size z → z = qm ∨ H.size ≤ z := by
    rintro z (⟨k, e, hk⟩ | h)
    · left
      have hlt : k < 1 := (List.getElem?_eq_some_iff.mp hk).1
      have : k = 0 := by omega
      subst this
      have := Option.some.inj hk
      exact (congrArg Prod.fst this).symm
    · exact Or.inr h
  have hdis : ∀ z, z ∈ aM qm bm → ¬ z ∈ aX qx bx := by
    intro z hz hz2
    obtain ⟨g1, g2⟩ := hxm z hz2
    have hz : z ∈ (wM qm bm cm m_init).map Prod.fst := hz
    obtain ⟨x, hx, rfl⟩ := List.mem_map.mp hz
    obtain ⟨k, hk⟩ := List.getElem?_of_mem hx
    rcases hin x.1 (hDm.2 k x hk) with h | h
    · exact g1 h
    · omega
  have hPx : va_P (dC, dI) vwCl (wX qx bx cx x_init) H1 := hPx.kept fun k x hk => by
    have hm : x.1 ∈ aX qx bx := by
      show x.1 ∈ (wX qx bx cx x_init).map Prod.fst
      exact List.mem_map.mpr ⟨x, List.mem_of_getElem? hk, rfl⟩
    obtain ⟨g1, g2⟩ := hxm x.1 hm
    refine hk1 x.1 g2 fun z => ?_
    rcases hin x.1 z with h | h
    · exact g1 h
    · omega
  have hDm : va_D A (wM qm bm cm m_init) := hDm.weaken (fun _ z _ h => hFc z.1 h)
  refine W.widen (k := 15) (n := 224) (Nat.le_refl _) (Nat.le_refl _) ?_
  refine lv_astore_n (lv' := [(2, .ref qm), (1, .ref qx), (0, .ref b)]) hx hb dL_law_15 rfl hl (by decide) rfl (fun ls hl => ?_)
  refine lv_iconst (v := 0) hx hb dL_law_16 (by decide) ?_
  refine lv_istore_n (lv' := [(3, .int 0), (2, .ref qm), (1, .ref qx), (0, .ref b)]) hx hb dL_law_17 rfl hl (by decide) rfl (fun ls hl => ?_)
  exact law_loop ⟨hx, hb, hml, hown, hts, hX, hbl, hbA, hA, hKx, hKm, hdis, hL⟩ hAe hr hlocks 65 0 x_init m_init _ _ ls (by omega) (by omega) sim_init ⟨hPx, hDx, hPm, hDm, hS⟩ (lv_sub hl [3, 2, 1, 0] rfl)
end
section
set_option maxRecDepth 100000

set_option maxHeartbeats 4000000 in
theorem lw_walk (l : Launch) (b : Addr) (xs : List Int32) : MetFree l x (headSpec (Jvm.Cond.code x code maxLocals ret :: tables_1) room_1) (lw_P b xs) (fun _ _ _ _ _ => True) lw_Q := by
  refine MetFree.of_bodyS (code := code) (maxLocals := maxLocals) (ret := ret) (by decide) ?_ ?_
  · intro args s m h hn
    obtain ⟨meth, c, h1, h2, h3, h4, h5, h6, -, -⟩ := Cond.code_spec hn (atoms_spec (ws := Jvm.Cond.code x code maxLocals ret :: tables_1) h _ List.mem_cons_self)
    exact ⟨meth, c, h1, h2, h3, h4, h5, h6⟩
  · intro p e s m args below meth c s₁ B hml0 hP _
    obtain ⟨rfl, hx, hbd, hgv⟩ := hP
    obtain ⟨scr, harrAt, hlist, hof, hsmall⟩ := hx
    obtain ⟨hcb, hkn, -, -⟩ := State.arrayAt?_spec harrAt
    have hown : s.vm.findClass R_law = some m.cls := findClass_of_methodNamed B.named
    have hts0 : ∀ c ∈ (Jvm.Cond.code x code maxLocals ret :: tables_1), c.before #[Value.ref b] s = true := atoms_spec (ws := Jvm.Cond.code x code maxLocals ret :: tables_1) B.pre
    have hts : ∀ w ∈ lw_tbl, w.before #[Value.ref b] s = true := k2_hts_sels lw_privs (fun w hw => hts0 w (List.mem_cons_of_mem _ hw)) lw_privs_ok
    have hml : c.maxLocals = 4 := B.maxLocals_eq (hts0 _ List.mem_cons_self)
    have X₀ : Stand p l e room_1 s m #[Value.ref b] below meth c s₁ [] 0 0 := Stand.of_body B
    have hh0 : s₁.heap = s.heap := by rw [B.state]; rfl
    have hsz : scr.slots.size = xs.length := by rw [← Array.length_toList, hlist, List.length_map]
    have hval : ∀ j : Nat, j < xs.length → scr.slots[j]? = some (.int (xs.getD j 0)) := fun j hj => by
      rw [← Array.getElem?_toList, hlist]
      simp [hj]
    have hbl : b < s.heap.size := (Array.getElem?_eq_some_iff.mp hcb).1
    have hX : va_X b xs.length (fun j => xs.getD j 0) s s.heap := ⟨scr, hcb, hof, hkn, hsz, hval⟩
    have K : W p l e room_1 s m #[Value.ref b] below meth c s₁.heap [] 0 0 (lw_Z below #[Value.ref b] s) (entryFrame m ([Value.ref b] : List Value).toArray 4) := by
      rw [hh0]
      exact whole_start l hbd ⟨B.exec, B.bytes, B.returns, hml, hown, hts, hX, hbl, B.notSynchronized, hgv⟩
    obtain ⟨t, a1, o, b1, b2, b3⟩ := K s₁ rfl X₀
    exact ⟨t, o, a1, b1, b2, b3⟩
theorem lw_pre_spec {args : Array Value} {s : State} (h : (Jvm.Cond.and given_1 narrow_1).before args s = true) (hr : rest_1_c.before args s = true) : ∃ (b : Addr) (xs : List Int32), lw_P b xs args s := by
  have hs := flat_of_before _ h
  have hq := flat_of_before _ hr
  have hc : (Cond.count 1).before args s = true := hs _ (by decide +kernel)
  have harr : (Cond.arrayOf (.arg 0) .int).before args s = true := hs _ (by decide +kernel)
  have hle : (Cond.le (.length (.arg 0)) (.int 256)).before args s = true := hs _ (by decide +kernel)
  have hlen : (Cond.isInt (.length (.arg 0))).before args s = true := hq _ (by decide +kernel)
  have hall : (Cond.all (.arg 0) (.isInt (.elem (.arg 0) (.index 0)))).before args s = true := hq _ (by decide +kernel)
  obtain ⟨b, xs, hb, hx⟩ := State.ints_of_pre rfl harr hlen hall
  have hsm : xs.length < 2 ^ 31 := hx.choose_spec.2.2.2
  have hev : (Term.length (.arg 0)).eval args s none [] s = some (.int xs.length.toInt32) := hx.length_eval hb
  have hv := Cond.le_ints hev (show (Term.int 256).eval args s none [] s = some (.int 256) from rfl)
  have hd : xs.length.toInt32 ≤ 256 := by
    simpa [Cond.before, Cond.holds, hv] using hle
  have hN : xs.length ≤ 256 := (Int32.ofNat_le_ofNat hsm (by decide)).mp (show Int32.ofNat xs.length ≤ Int32.ofNat 256 from hd)
  exact ⟨b, xs, Cond.one_arg hc (show args[0]? = some (.ref b) from hb), hx, hN, h⟩
theorem lw_comes (l : Launch) : Comes l x (Jvm.Cond.code x code maxLocals ret :: tables_1) room_1 (fun tb e args s => Calls_1 tb e args s ∧ rest_1 tb e args s ∧ Pre_1 tb e args s)
    (fun _ _ args s o t => lw_Q args s o t) := by
  intro p e ha hc hk s m args below hf hfit hheap happ hpre
  obtain ⟨b, xs, hP⟩ := lw_pre_spec hpre.2.2 hpre.2.1
  obtain ⟨k, o, h1, h2, h3, hQ⟩ := lw_walk l b xs p e ha hc hk s m args below hf ((Spec.applies_iff_loose hf).mp happ).1 hP trivial
  exact ⟨k, o, h1, h2, h3, hQ⟩
theorem lw_frame {s t : State} {o : Outcome} {args : Array Value} (h : Framed s o t [] 600000 7290000) :
    Framed s o t (fieldLocs frame_1_writes args s ++ arrayLocs frame_1_arrays args s ++ staticLocs frame_1_statics s) 600000 7290000 := h
theorem lw_limb (L : Cond) (hL : ∀ (args : Array Value) (s t : State), L.after args s (.returned (some (.int 1))) t = true) :
    ArmFor flags0 classFile x code maxLocals ret World_1 tables_1 room_1 Calls_1 rest_1 Pre_1
      (fun tb e a s o t => postC L tb e a s o t ∧ Framed s o t (fieldLocs frame_1_writes a s ++ arrayLocs frame_1_arrays a s ++ staticLocs frame_1_statics s) 600000 7290000) := by
  intro l _ _ _ p e ha hc hk s m args below hf hfit hheap happ hpre
  obtain ⟨k, o, h1, h2, h3, rfl, hF⟩ := lw_comes l p e ha hc hk s m args below hf hfit hheap happ hpre
  exact ⟨k, _, h1, h2, h3, hL args s _, lw_frame hF⟩
theorem i_vc : Claimed_1_1 ∧ Claimed_1_2 := ⟨lw_limb limb_1_1 (fun args s t => by simp [limb_1_1, Cond.after, Cond.holds, Cond.value]), lw_limb limb_1_2 (fun args s t => Cond.after_iff.mpr (by
  first | (rw [show limb_1_2 = Cond.eq .result (.int 1) from rfl, Cond.eq_ints (x := 1) (y := 1) rfl rfl]; simp; done) | (simp [limb_1_2, Cond.value, Term.eval]; done)))⟩
end
