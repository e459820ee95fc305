section
-- ===== PART A: goes FIRST, ahead of the names: the tables' words, and 'selects' of the private methods out of them =====
/-- a private method of a class that the tables say can be made, by its rows of tables_1 -/
def lw_okq (q : MethodName × Nat) : Prop := (q.1.cls ≠ "java/lang/invoke/MethodHandle" ∧ q.1.cls ≠ "java/lang/invoke/VarHandle") ∧ Cond.instantiable q.1.cls q.2 ∈ tables_1 ∧ Cond.privateMethod q.1 ∈ tables_1 ∧ Cond.instanceMethod q.1 ∈ tables_1
set_option maxRecDepth 100000
theorem lw_t1 {w : Cond} (h : w ∈ tables_1_1) : w ∈ tables_1 := List.mem_append_left _ h
theorem lw_t2 {w : Cond} (h : w ∈ tables_1_2) : w ∈ tables_1 := List.mem_append_right _ h
theorem lw_p0 : lw_okq (⟨"DescriptorTable", "isAlive", "(I)Z"⟩, 16) := ⟨⟨by decide +kernel, by decide +kernel⟩, lw_t1 (List.mem_of_getElem? (i := 4) rfl), lw_t1 (List.mem_of_getElem? (i := 67) rfl), lw_t1 (List.mem_of_getElem? (i := 68) rfl)⟩
theorem lw_p1 : lw_okq (⟨"DescriptorTable", "freeDescriptor", "(II)I"⟩, 16) := ⟨⟨by decide +kernel, by decide +kernel⟩, lw_t1 (List.mem_of_getElem? (i := 4) rfl), lw_t1 (List.mem_of_getElem? (i := 74) rfl), lw_t1 (List.mem_of_getElem? (i := 75) rfl)⟩
theorem lw_p2 : lw_okq (⟨"DescriptorTable", "freeFile", "()I"⟩, 16) := ⟨⟨by decide +kernel, by decide +kernel⟩, lw_t1 (List.mem_of_getElem? (i := 4) rfl), lw_t1 (List.mem_of_getElem? (i := 78) rfl), lw_t1 (List.mem_of_getElem? (i := 79) rfl)⟩
theorem lw_p3 : lw_okq (⟨"DescriptorTable", "newOpening", "(II)I"⟩, 16) := ⟨⟨by decide +kernel, by decide +kernel⟩, lw_t1 (List.mem_of_getElem? (i := 4) rfl), lw_t1 (List.mem_of_getElem? (i := 82) rfl), lw_t1 (List.mem_of_getElem? (i := 83) rfl)⟩
theorem lw_p4 : lw_okq (⟨"DescriptorTable", "freePipe", "()I"⟩, 16) := ⟨⟨by decide +kernel, by decide +kernel⟩, lw_t1 (List.mem_of_getElem? (i := 4) rfl), lw_t1 (List.mem_of_getElem? (i := 90) rfl), lw_t1 (List.mem_of_getElem? (i := 91) rfl)⟩
theorem lw_p5 : lw_okq (⟨"DescriptorTable", "openingOf", "(II)I"⟩, 16) := ⟨⟨by decide +kernel, by decide +kernel⟩, lw_t1 (List.mem_of_getElem? (i := 4) rfl), lw_t1 (List.mem_of_getElem? (i := 98) rfl), lw_t1 (List.mem_of_getElem? (i := 99) rfl)⟩
theorem lw_p6 : lw_okq (⟨"DescriptorTable", "letGo", "(I)V"⟩, 16) := ⟨⟨by decide +kernel, by decide +kernel⟩, lw_t1 (List.mem_of_getElem? (i := 4) rfl), lw_t1 (List.mem_of_getElem? (i := 106) rfl), lw_t1 (List.mem_of_getElem? (i := 107) rfl)⟩
theorem lw_p7 : lw_okq (⟨"DescriptorTable", "writeFile", "(II)I"⟩, 16) := ⟨⟨by decide +kernel, by decide +kernel⟩, lw_t1 (List.mem_of_getElem? (i := 4) rfl), lw_t1 (List.mem_of_getElem? (i := 122) rfl), lw_t1 (List.mem_of_getElem? (i := 123) rfl)⟩
theorem lw_p8 : lw_okq (⟨"DescriptorTable", "writePipe", "(II)I"⟩, 16) := ⟨⟨by decide +kernel, by decide +kernel⟩, lw_t1 (List.mem_of_getElem? (i := 4) rfl), lw_t1 (List.mem_of_getElem? (i := 126) rfl), lw_t1 (List.mem_of_getElem? (i := 127) rfl)⟩
theorem lw_p9 : lw_okq (⟨"DescriptorTable", "readFile", "(I)I"⟩, 16) := ⟨⟨by decide +kernel, by decide +kernel⟩, lw_t1 (List.mem_of_getElem? (i := 4) rfl), lw_t1 (List.mem_of_getElem? (i := 134) rfl), lw_t1 (List.mem_of_getElem? (i := 135) rfl)⟩
theorem lw_p10 : lw_okq (⟨"DescriptorTable", "readPipe", "(I)I"⟩, 16) := ⟨⟨by decide +kernel, by decide +kernel⟩, lw_t1 (List.mem_of_getElem? (i := 4) rfl), lw_t1 (List.mem_of_getElem? (i := 138) rfl), lw_t1 (List.mem_of_getElem? (i := 139) rfl)⟩
theorem lw_p11 : lw_okq (⟨"DescriptorTableModel", "dead", "(I)Z"⟩, 10) := ⟨⟨by decide +kernel, by decide +kernel⟩, lw_t1 (List.mem_of_getElem? (i := 158) rfl), lw_t1 (List.mem_of_getElem? (i := 199) rfl), lw_t1 (List.mem_of_getElem? (i := 200) rfl)⟩
theorem lw_p12 : lw_okq (⟨"DescriptorTableModel", "leastFree", "(I)I"⟩, 10) := ⟨⟨by decide +kernel, by decide +kernel⟩, lw_t1 (List.mem_of_getElem? (i := 158) rfl), lw_t1 (List.mem_of_getElem? (i := 206) rfl), lw_t1 (List.mem_of_getElem? (i := 207) rfl)⟩
theorem lw_p13 : lw_okq (⟨"DescriptorTableModel", "newFile", "()I"⟩, 10) := ⟨⟨by decide +kernel, by decide +kernel⟩, lw_t1 (List.mem_of_getElem? (i := 158) rfl), lw_t1 (List.mem_of_getElem? (i := 210) rfl), lw_t1 (List.mem_of_getElem? (i := 211) rfl)⟩
theorem lw_p14 : lw_okq (⟨"DescriptorTableModel", "isFile", "(I)Z"⟩, 10) := ⟨⟨by decide +kernel, by decide +kernel⟩, lw_t1 (List.mem_of_getElem? (i := 158) rfl), lw_t1 (List.mem_of_getElem? (i := 214) rfl), lw_t1 (List.mem_of_getElem? (i := 215) rfl)⟩
theorem lw_p15 : lw_okq (⟨"DescriptorTableModel", "hasOpening", "(II)Z"⟩, 10) := ⟨⟨by decide +kernel, by decide +kernel⟩, lw_t1 (List.mem_of_getElem? (i := 158) rfl), lw_t1 (List.mem_of_getElem? (i := 218) rfl), lw_t1 (List.mem_of_getElem? (i := 219) rfl)⟩
def lw_privs_1 : List (MethodName × Nat) := [(⟨"DescriptorTable", "isAlive", "(I)Z"⟩, 16), (⟨"DescriptorTable", "freeDescriptor", "(II)I"⟩, 16), (⟨"DescriptorTable", "freeFile", "()I"⟩, 16), (⟨"DescriptorTable", "newOpening", "(II)I"⟩, 16), (⟨"DescriptorTable", "freePipe", "()I"⟩, 16), (⟨"DescriptorTable", "openingOf", "(II)I"⟩, 16), (⟨"DescriptorTable", "letGo", "(I)V"⟩, 16), (⟨"DescriptorTable", "writeFile", "(II)I"⟩, 16), (⟨"DescriptorTable", "writePipe", "(II)I"⟩, 16), (⟨"DescriptorTable", "readFile", "(I)I"⟩, 16), (⟨"DescriptorTable", "readPipe", "(I)I"⟩, 16), (⟨"DescriptorTableModel", "dead", "(I)Z"⟩, 10), (⟨"DescriptorTableModel", "leastFree", "(I)I"⟩, 10), (⟨"DescriptorTableModel", "newFile", "()I"⟩, 10), (⟨"DescriptorTableModel", "isFile", "(I)Z"⟩, 10), (⟨"DescriptorTableModel", "hasOpening", "(II)Z"⟩, 10)]
theorem lw_r1 : ∀ q ∈ lw_privs_1, lw_okq q := List.forall_mem_cons.mpr ⟨lw_p0, List.forall_mem_cons.mpr ⟨lw_p1, List.forall_mem_cons.mpr ⟨lw_p2, List.forall_mem_cons.mpr ⟨lw_p3, List.forall_mem_cons.mpr ⟨lw_p4, List.forall_mem_cons.mpr ⟨lw_p5, List.forall_mem_cons.mpr ⟨lw_p6, List.forall_mem_cons.mpr ⟨lw_p7, List.forall_mem_cons.mpr ⟨lw_p8, List.forall_mem_cons.mpr ⟨lw_p9, List.forall_mem_cons.mpr ⟨lw_p10, List.forall_mem_cons.mpr ⟨lw_p11, List.forall_mem_cons.mpr ⟨lw_p12, List.forall_mem_cons.mpr ⟨lw_p13, List.forall_mem_cons.mpr ⟨lw_p14, List.forall_mem_cons.mpr ⟨lw_p15, fun _ h => absurd h List.not_mem_nil⟩⟩⟩⟩⟩⟩⟩⟩⟩⟩⟩⟩⟩⟩⟩⟩
theorem lw_p16 : lw_okq (⟨"DescriptorTableModel", "opened", "(I)Z"⟩, 10) := ⟨⟨by decide +kernel, by decide +kernel⟩, lw_t1 (List.mem_of_getElem? (i := 158) rfl), lw_t1 (List.mem_of_getElem? (i := 222) rfl), lw_t1 (List.mem_of_getElem? (i := 223) rfl)⟩
theorem lw_p17 : lw_okq (⟨"DescriptorTableModel", "lead", "(III)I"⟩, 10) := ⟨⟨by decide +kernel, by decide +kernel⟩, lw_t1 (List.mem_of_getElem? (i := 158) rfl), lw_t1 (List.mem_of_getElem? (i := 226) rfl), lw_t1 (List.mem_of_getElem? (i := 227) rfl)⟩
theorem lw_p18 : lw_okq (⟨"DescriptorTableModel", "freeDescriptors", "(I)I"⟩, 10) := ⟨⟨by decide +kernel, by decide +kernel⟩, lw_t1 (List.mem_of_getElem? (i := 158) rfl), lw_t1 (List.mem_of_getElem? (i := 234) rfl), lw_t1 (List.mem_of_getElem? (i := 235) rfl)⟩
theorem lw_p19 : lw_okq (⟨"DescriptorTableModel", "free", "(II)Z"⟩, 10) := ⟨⟨by decide +kernel, by decide +kernel⟩, lw_t1 (List.mem_of_getElem? (i := 158) rfl), lw_t2 (List.mem_of_getElem? (i := 2) rfl), lw_t2 (List.mem_of_getElem? (i := 3) rfl)⟩
def lw_privs_2 : List (MethodName × Nat) := [(⟨"DescriptorTableModel", "opened", "(I)Z"⟩, 10), (⟨"DescriptorTableModel", "lead", "(III)I"⟩, 10), (⟨"DescriptorTableModel", "freeDescriptors", "(I)I"⟩, 10), (⟨"DescriptorTableModel", "free", "(II)Z"⟩, 10)]
theorem lw_r2 : ∀ q ∈ lw_privs_2, lw_okq q := List.forall_mem_cons.mpr ⟨lw_p16, List.forall_mem_cons.mpr ⟨lw_p17, List.forall_mem_cons.mpr ⟨lw_p18, List.forall_mem_cons.mpr ⟨lw_p19, fun _ h => absurd h List.not_mem_nil⟩⟩⟩⟩
def lw_privs : List (MethodName × Nat) := lw_privs_1 ++ (lw_privs_2)
def lw_tbl : List Cond := k2_sels lw_privs ++ tables_1
theorem lw_privs_ok : ∀ q ∈ lw_privs, lw_okq q := by
  show ∀ q ∈ lw_privs_1 ++ (lw_privs_2), lw_okq q
  exact List.forall_mem_append.mpr ⟨lw_r1, lw_r2⟩
-- ===== ONE list of words for every method: the tables' words that hold all through a run =====
def lw_all : List Cond := lw_tbl.filter goodWord
/-- a word of the tables by its place: claim/WORDS.tsv -/
theorem lw_w {w : Cond} (i : Nat) (h : lw_tbl[i]? = some w) (g : goodWord w = true) : w ∈ lw_all := List.mem_filter.mpr ⟨List.mem_of_getElem? h, g⟩
theorem lw_all_tbl {w : Cond} (h : w ∈ lw_all) : w ∈ lw_tbl := (List.mem_filter.mp h).1
theorem lw_self : GoodIn lw_all lw_all := fun w h => ⟨h, good_of_word (List.mem_filter.mp h).2⟩
/-- a class's field words, by their places -/
theorem lw_in (ws : List Cond) (ps : List Nat) (hp : ws = ps.filterMap (fun i => lw_tbl[i]?)) (hg : ws.all goodWord = true) : ∀ w ∈ ws, w ∈ lw_all := by
  intro w h
  have h1 := List.all_eq_true.mp hg w h
  rw [hp] at h
  obtain ⟨i, -, hi⟩ := List.mem_filterMap.mp h
  exact lw_w i hi h1
/-- the words of a contract for the method y with code b, L locals, answer r -/
abbrev ws_ (y : MethodName) (b : ByteArray) (L : Nat) (r : Option FieldType) : List Cond := Cond.code y b L r :: lw_all
theorem lw_meth {y : MethodName} {b : ByteArray} {L : Nat} {r : Option FieldType} (h : Cond.code y b L r ∈ lw_all) : GoodIn lw_all (ws_ y b L r) := by
  intro w hw
  rcases List.mem_cons.mp hw with e | e
  · rw [e]
    exact lw_self _ h
  · exact lw_self _ e
theorem lw_app {a c : List Cond} (ha : ∀ w ∈ a, w ∈ lw_all) (hc : GoodIn lw_all c) : GoodIn lw_all (a ++ c) := by
  intro w hw
  rcases List.mem_append.mp hw with e | e
  · exact lw_self w (ha w e)
  · exact hc w e
/-- what a call through an object asks: cwV n hts (lw_V ..) -/
theorem lw_V {own : String} {idx : Nat} {C : String} {y : MethodName} {b : ByteArray} {L : Nat} {r : Option FieldType} (h1 : Cond.methodLink own idx y ∈ lw_all) (h2 : Cond.instanceMethod y ∈ lw_all) (h3 : Cond.selects C y y ∈ lw_all) (h4 : Cond.initialized C ∈ lw_all) (h5 : Cond.code y b L r ∈ lw_all) : GoodIn lw_all (wsV own idx C y (ws_ y b L r)) := by
  refine lw_app ?_ (lw_meth h5)
  intro w hw
  simp only [List.mem_cons, List.not_mem_nil, or_false] at hw
  rcases hw with e | e | e | e
  · rw [e]; exact h1
  · rw [e]; exact h2
  · rw [e]; exact h3
  · rw [e]; exact h4
/-- what a static call asks: va_cwS n hts (lw_S ..) -/
theorem lw_S {own : String} {idx : Nat} {y : MethodName} {b : ByteArray} {L : Nat} {r : Option FieldType} (h1 : Cond.methodLink own idx y ∈ lw_all) (h2 : Cond.static y ∈ lw_all) (h3 : Cond.initialized y.cls ∈ lw_all) (h4 : Cond.code y b L r ∈ lw_all) : GoodIn lw_all (va_wsS own idx y (ws_ y b L r)) := by
  refine lw_app ?_ (lw_meth h4)
  intro w hw
  simp only [List.mem_cons, List.not_mem_nil, or_false] at hw
  rcases hw with e | e | e
  · rw [e]; exact h1
  · rw [e]; exact h2
  · rw [e]; exact h3
/-- the words of a contract for a method WITH HANDLERS (hh: its table) -/
abbrev wsW_ (y : MethodName) (b : ByteArray) (L : Nat) (r : Option FieldType) (hh : List (Nat × Nat × Nat × Nat)) : List Cond := Cond.codeWith y b L r hh :: lw_all
theorem lw_methW {y : MethodName} {b : ByteArray} {L : Nat} {r : Option FieldType} {hh : List (Nat × Nat × Nat × Nat)} (h : Cond.codeWith y b L r hh ∈ lw_all) : GoodIn lw_all (wsW_ y b L r hh) := by
  intro w hw
  rcases List.mem_cons.mp hw with e | e
  · rw [e]
    exact lw_self _ h
  · exact lw_self _ e
/-- any list of words by their places (lw_in), good -/
theorem lw_good {ws : List Cond} (h : ∀ w ∈ ws, w ∈ lw_all) : GoodIn lw_all ws := fun w hw => lw_self w (h w hw)
/-- what a call of a method with handlers asks: vx_cwVW n hts (lw_VW ..), vx_cwSW n hts (lw_SW ..) -/
theorem lw_VW {own : String} {idx : Nat} {C : String} {y : MethodName} {b : ByteArray} {L : Nat} {r : Option FieldType} {hh : List (Nat × Nat × Nat × Nat)} (h1 : Cond.methodLink own idx y ∈ lw_all) (h2 : Cond.instanceMethod y ∈ lw_all) (h3 : Cond.selects C y y ∈ lw_all) (h4 : Cond.initialized C ∈ lw_all) (h5 : Cond.codeWith y b L r hh ∈ lw_all) : GoodIn lw_all (wsV own idx C y (wsW_ y b L r hh)) := by
  refine lw_app ?_ (lw_methW h5)
  intro w hw
  simp only [List.mem_cons, List.not_mem_nil, or_false] at hw
  rcases hw with e | e | e | e
  · rw [e]; exact h1
  · rw [e]; exact h2
  · rw [e]; exact h3
  · rw [e]; exact h4
theorem lw_SW {own : String} {idx : Nat} {y : MethodName} {b : ByteArray} {L : Nat} {r : Option FieldType} {hh : List (Nat × Nat × Nat × Nat)} (h1 : Cond.methodLink own idx y ∈ lw_all) (h2 : Cond.static y ∈ lw_all) (h3 : Cond.initialized y.cls ∈ lw_all) (h4 : Cond.codeWith y b L r hh ∈ lw_all) : GoodIn lw_all (va_wsS own idx y (wsW_ y b L r hh)) := by
  refine lw_app ?_ (lw_methW h4)
  intro w hw
  simp only [List.mem_cons, List.not_mem_nil, or_false] at hw
  rcases hw with e | e | e
  · rw [e]; exact h1
  · rw [e]; exact h2
  · rw [e]; exact h3
/-- a word by its place in its run of the tables -/
theorem lw_at {r : List Cond} (hr : ∀ w ∈ r, w ∈ lw_tbl) {w : Cond} (i : Nat) (h : r[i]? = some w) : w ∈ lw_tbl := hr w (List.mem_of_getElem? h)
theorem lw_g {w : Cond} (h : w ∈ lw_tbl) (g : goodWord w = true) : w ∈ lw_all := List.mem_filter.mpr ⟨h, g⟩
theorem lw_ms : ∀ w ∈ k2_sels lw_privs, w ∈ lw_tbl := fun w h => show w ∈ k2_sels lw_privs ++ tables_1 from List.mem_append_left _ h
theorem lw_m1 : ∀ w ∈ tables_1_1, w ∈ lw_tbl := fun w h => show w ∈ k2_sels lw_privs ++ tables_1 from List.mem_append_right (k2_sels lw_privs) (show w ∈ tables_1 from List.mem_append_left _ h)
theorem lw_m2 : ∀ w ∈ tables_1_2, w ∈ lw_tbl := fun w h => show w ∈ k2_sels lw_privs ++ tables_1 from List.mem_append_right (k2_sels lw_privs) (show w ∈ tables_1 from List.mem_append_right _ h)
theorem qs0 : (Cond.selects "DescriptorTable" ⟨"DescriptorTable", "isAlive", "(I)Z"⟩ ⟨"DescriptorTable", "isAlive", "(I)Z"⟩) ∈ lw_all := lw_g (lw_at lw_ms 0 rfl) rfl
theorem qs1 : (Cond.selects "DescriptorTable" ⟨"DescriptorTable", "freeDescriptor", "(II)I"⟩ ⟨"DescriptorTable", "freeDescriptor", "(II)I"⟩) ∈ lw_all := lw_g (lw_at lw_ms 1 rfl) rfl
theorem qs2 : (Cond.selects "DescriptorTable" ⟨"DescriptorTable", "freeFile", "()I"⟩ ⟨"DescriptorTable", "freeFile", "()I"⟩) ∈ lw_all := lw_g (lw_at lw_ms 2 rfl) rfl
theorem qs3 : (Cond.selects "DescriptorTable" ⟨"DescriptorTable", "newOpening", "(II)I"⟩ ⟨"DescriptorTable", "newOpening", "(II)I"⟩) ∈ lw_all := lw_g (lw_at lw_ms 3 rfl) rfl
theorem qs4 : (Cond.selects "DescriptorTable" ⟨"DescriptorTable", "freePipe", "()I"⟩ ⟨"DescriptorTable", "freePipe", "()I"⟩) ∈ lw_all := lw_g (lw_at lw_ms 4 rfl) rfl
theorem qs5 : (Cond.selects "DescriptorTable" ⟨"DescriptorTable", "openingOf", "(II)I"⟩ ⟨"DescriptorTable", "openingOf", "(II)I"⟩) ∈ lw_all := lw_g (lw_at lw_ms 5 rfl) rfl
theorem qs6 : (Cond.selects "DescriptorTable" ⟨"DescriptorTable", "letGo", "(I)V"⟩ ⟨"DescriptorTable", "letGo", "(I)V"⟩) ∈ lw_all := lw_g (lw_at lw_ms 6 rfl) rfl
theorem qs7 : (Cond.selects "DescriptorTable" ⟨"DescriptorTable", "writeFile", "(II)I"⟩ ⟨"DescriptorTable", "writeFile", "(II)I"⟩) ∈ lw_all := lw_g (lw_at lw_ms 7 rfl) rfl
theorem qs8 : (Cond.selects "DescriptorTable" ⟨"DescriptorTable", "writePipe", "(II)I"⟩ ⟨"DescriptorTable", "writePipe", "(II)I"⟩) ∈ lw_all := lw_g (lw_at lw_ms 8 rfl) rfl
theorem qs9 : (Cond.selects "DescriptorTable" ⟨"DescriptorTable", "readFile", "(I)I"⟩ ⟨"DescriptorTable", "readFile", "(I)I"⟩) ∈ lw_all := lw_g (lw_at lw_ms 9 rfl) rfl
theorem qs10 : (Cond.selects "DescriptorTable" ⟨"DescriptorTable", "readPipe", "(I)I"⟩ ⟨"DescriptorTable", "readPipe", "(I)I"⟩) ∈ lw_all := lw_g (lw_at lw_ms 10 rfl) rfl
theorem qs11 : (Cond.selects "DescriptorTableModel" ⟨"DescriptorTableModel", "dead", "(I)Z"⟩ ⟨"DescriptorTableModel", "dead", "(I)Z"⟩) ∈ lw_all := lw_g (lw_at lw_ms 11 rfl) rfl
theorem qs12 : (Cond.selects "DescriptorTableModel" ⟨"DescriptorTableModel", "leastFree", "(I)I"⟩ ⟨"DescriptorTableModel", "leastFree", "(I)I"⟩) ∈ lw_all := lw_g (lw_at lw_ms 12 rfl) rfl
theorem qs13 : (Cond.selects "DescriptorTableModel" ⟨"DescriptorTableModel", "newFile", "()I"⟩ ⟨"DescriptorTableModel", "newFile", "()I"⟩) ∈ lw_all := lw_g (lw_at lw_ms 13 rfl) rfl
theorem qs14 : (Cond.selects "DescriptorTableModel" ⟨"DescriptorTableModel", "isFile", "(I)Z"⟩ ⟨"DescriptorTableModel", "isFile", "(I)Z"⟩) ∈ lw_all := lw_g (lw_at lw_ms 14 rfl) rfl
theorem qs15 : (Cond.selects "DescriptorTableModel" ⟨"DescriptorTableModel", "hasOpening", "(II)Z"⟩ ⟨"DescriptorTableModel", "hasOpening", "(II)Z"⟩) ∈ lw_all := lw_g (lw_at lw_ms 15 rfl) rfl
theorem qs16 : (Cond.selects "DescriptorTableModel" ⟨"DescriptorTableModel", "opened", "(I)Z"⟩ ⟨"DescriptorTableModel", "opened", "(I)Z"⟩) ∈ lw_all := lw_g (lw_at lw_ms 16 rfl) rfl
theorem qs17 : (Cond.selects "DescriptorTableModel" ⟨"DescriptorTableModel", "lead", "(III)I"⟩ ⟨"DescriptorTableModel", "lead", "(III)I"⟩) ∈ lw_all := lw_g (lw_at lw_ms 17 rfl) rfl
theorem qs18 : (Cond.selects "DescriptorTableModel" ⟨"DescriptorTableModel", "freeDescriptors", "(I)I"⟩ ⟨"DescriptorTableModel", "freeDescriptors", "(I)I"⟩) ∈ lw_all := lw_g (lw_at lw_ms 18 rfl) rfl
theorem qs19 : (Cond.selects "DescriptorTableModel" ⟨"DescriptorTableModel", "free", "(II)Z"⟩ ⟨"DescriptorTableModel", "free", "(II)Z"⟩) ∈ lw_all := lw_g (lw_at lw_ms 19 rfl) rfl
end
section
/-! DescriptorTable -/
set_option maxRecDepth 100000
def RX0 : String := "DescriptorTable"
def TX0 : u_T := fun k => match k with
  | 0 => ("DescriptorTable", "living", "I", false)
  | 1 => ("DescriptorTable", "alive", "[Z", true)
  | 2 => ("DescriptorTable", "opening", "[I", true)
  | 3 => ("DescriptorTable", "openUsers", "[I", true)
  | 4 => ("DescriptorTable", "openSort", "[I", true)
  | 5 => ("DescriptorTable", "openTarget", "[I", true)
  | 6 => ("DescriptorTable", "openOffset", "[I", true)
  | 7 => ("DescriptorTable", "fileOf", "[I", true)
  | 8 => ("DescriptorTable", "fileUsers", "[I", true)
  | 9 => ("DescriptorTable", "fileLength", "[I", true)
  | 10 => ("DescriptorTable", "fileByte", "[I", true)
  | 11 => ("DescriptorTable", "hasReader", "[Z", true)
  | 12 => ("DescriptorTable", "hasWriter", "[Z", true)
  | 13 => ("DescriptorTable", "pipeStart", "[I", true)
  | 14 => ("DescriptorTable", "pipeCount", "[I", true)
  | _ => ("DescriptorTable", "pipeByte", "[I", true)
def tyX0 : Nat → FieldType := fun k => match k with
  | 0 => .int
  | 1 => .array .boolean
  | 2 => .array .int
  | 3 => .array .int
  | 4 => .array .int
  | 5 => .array .int
  | 6 => .array .int
  | 7 => .array .int
  | 8 => .array .int
  | 9 => .array .int
  | 10 => .array .int
  | 11 => .array .boolean
  | 12 => .array .boolean
  | 13 => .array .int
  | 14 => .array .int
  | _ => .array .int
abbrev wsX00 : List Cond := u_ws RX0 TX0 16
set_option maxRecDepth 100000 in
theorem nmX0 : ∀ a, a < 16 → ∀ b, b < 16 → a ≠ b → (TX0 a).2.1 ≠ (TX0 b).2.1 := by decide +kernel
set_option maxRecDepth 100000 in
theorem tyX0_ok : ∀ k, k < 16 → parseFieldDescriptor (TX0 k).2.2.1 = some (tyX0 k) := by decide +kernel
abbrev cX0_init : ByteArray := prog_1_method_1_code
def yX0_init : MethodName := ⟨RX0, "<init>", "()V"⟩
theorem dX0_init_0 : decode cX0_init 0 = .ok (.aload_n 0, 1) := by decide +kernel
theorem dX0_init_1 : decode cX0_init 1 = .ok (.invokespecial 1, 3) := by decide +kernel
theorem dX0_init_4 : decode cX0_init 4 = .ok (.aload_n 0, 1) := by decide +kernel
theorem dX0_init_5 : decode cX0_init 5 = .ok (.iconst 4, 1) := by decide +kernel
theorem dX0_init_6 : decode cX0_init 6 = .ok (.newarray .boolean, 2) := by decide +kernel
theorem dX0_init_8 : decode cX0_init 8 = .ok (.putfield 7, 3) := by decide +kernel
theorem dX0_init_11 : decode cX0_init 11 = .ok (.aload_n 0, 1) := by decide +kernel
theorem dX0_init_12 : decode cX0_init 12 = .ok (.bipush 24, 2) := by decide +kernel
theorem dX0_init_14 : decode cX0_init 14 = .ok (.newarray .int, 2) := by decide +kernel
theorem dX0_init_16 : decode cX0_init 16 = .ok (.putfield 13, 3) := by decide +kernel
theorem dX0_init_19 : decode cX0_init 19 = .ok (.aload_n 0, 1) := by decide +kernel
theorem dX0_init_20 : decode cX0_init 20 = .ok (.bipush 24, 2) := by decide +kernel
theorem dX0_init_22 : decode cX0_init 22 = .ok (.newarray .int, 2) := by decide +kernel
theorem dX0_init_24 : decode cX0_init 24 = .ok (.putfield 17, 3) := by decide +kernel
theorem dX0_init_27 : decode cX0_init 27 = .ok (.aload_n 0, 1) := by decide +kernel
theorem dX0_init_28 : decode cX0_init 28 = .ok (.bipush 24, 2) := by decide +kernel
theorem dX0_init_30 : decode cX0_init 30 = .ok (.newarray .int, 2) := by decide +kernel
theorem dX0_init_32 : decode cX0_init 32 = .ok (.putfield 20, 3) := by decide +kernel
theorem dX0_init_35 : decode cX0_init 35 = .ok (.aload_n 0, 1) := by decide +kernel
theorem dX0_init_36 : decode cX0_init 36 = .ok (.bipush 24, 2) := by decide +kernel
theorem dX0_init_38 : decode cX0_init 38 = .ok (.newarray .int, 2) := by decide +kernel
theorem dX0_init_40 : decode cX0_init 40 = .ok (.putfield 23, 3) := by decide +kernel
theorem dX0_init_43 : decode cX0_init 43 = .ok (.aload_n 0, 1) := by decide +kernel
theorem dX0_init_44 : decode cX0_init 44 = .ok (.bipush 24, 2) := by decide +kernel
theorem dX0_init_46 : decode cX0_init 46 = .ok (.newarray .int, 2) := by decide +kernel
theorem dX0_init_48 : decode cX0_init 48 = .ok (.putfield 26, 3) := by decide +kernel
theorem dX0_init_51 : decode cX0_init 51 = .ok (.aload_n 0, 1) := by decide +kernel
theorem dX0_init_52 : decode cX0_init 52 = .ok (.iconst 4, 1) := by decide +kernel
theorem dX0_init_53 : decode cX0_init 53 = .ok (.newarray .int, 2) := by decide +kernel
theorem dX0_init_55 : decode cX0_init 55 = .ok (.putfield 29, 3) := by decide +kernel
theorem dX0_init_58 : decode cX0_init 58 = .ok (.aload_n 0, 1) := by decide +kernel
theorem dX0_init_59 : decode cX0_init 59 = .ok (.bipush 28, 2) := by decide +kernel
theorem dX0_init_61 : decode cX0_init 61 = .ok (.newarray .int, 2) := by decide +kernel
theorem dX0_init_63 : decode cX0_init 63 = .ok (.putfield 32, 3) := by decide +kernel
theorem dX0_init_66 : decode cX0_init 66 = .ok (.aload_n 0, 1) := by decide +kernel
theorem dX0_init_67 : decode cX0_init 67 = .ok (.bipush 28, 2) := by decide +kernel
theorem dX0_init_69 : decode cX0_init 69 = .ok (.newarray .int, 2) := by decide +kernel
theorem dX0_init_71 : decode cX0_init 71 = .ok (.putfield 35, 3) := by decide +kernel
theorem dX0_init_74 : decode cX0_init 74 = .ok (.aload_n 0, 1) := by decide +kernel
theorem dX0_init_75 : decode cX0_init 75 = .ok (.sipush 224, 3) := by decide +kernel
theorem dX0_init_78 : decode cX0_init 78 = .ok (.newarray .int, 2) := by decide +kernel
theorem dX0_init_80 : decode cX0_init 80 = .ok (.putfield 38, 3) := by decide +kernel
theorem dX0_init_83 : decode cX0_init 83 = .ok (.aload_n 0, 1) := by decide +kernel
theorem dX0_init_84 : decode cX0_init 84 = .ok (.bipush 24, 2) := by decide +kernel
theorem dX0_init_86 : decode cX0_init 86 = .ok (.newarray .boolean, 2) := by decide +kernel
theorem dX0_init_88 : decode cX0_init 88 = .ok (.putfield 41, 3) := by decide +kernel
theorem dX0_init_91 : decode cX0_init 91 = .ok (.aload_n 0, 1) := by decide +kernel
theorem dX0_init_92 : decode cX0_init 92 = .ok (.bipush 24, 2) := by decide +kernel
theorem dX0_init_94 : decode cX0_init 94 = .ok (.newarray .boolean, 2) := by decide +kernel
theorem dX0_init_96 : decode cX0_init 96 = .ok (.putfield 44, 3) := by decide +kernel
theorem dX0_init_99 : decode cX0_init 99 = .ok (.aload_n 0, 1) := by decide +kernel
theorem dX0_init_100 : decode cX0_init 100 = .ok (.bipush 24, 2) := by decide +kernel
theorem dX0_init_102 : decode cX0_init 102 = .ok (.newarray .int, 2) := by decide +kernel
theorem dX0_init_104 : decode cX0_init 104 = .ok (.putfield 47, 3) := by decide +kernel
theorem dX0_init_107 : decode cX0_init 107 = .ok (.aload_n 0, 1) := by decide +kernel
theorem dX0_init_108 : decode cX0_init 108 = .ok (.bipush 24, 2) := by decide +kernel
theorem dX0_init_110 : decode cX0_init 110 = .ok (.newarray .int, 2) := by decide +kernel
theorem dX0_init_112 : decode cX0_init 112 = .ok (.putfield 50, 3) := by decide +kernel
theorem dX0_init_115 : decode cX0_init 115 = .ok (.aload_n 0, 1) := by decide +kernel
theorem dX0_init_116 : decode cX0_init 116 = .ok (.sipush 144, 3) := by decide +kernel
theorem dX0_init_119 : decode cX0_init 119 = .ok (.newarray .int, 2) := by decide +kernel
theorem dX0_init_121 : decode cX0_init 121 = .ok (.putfield 53, 3) := by decide +kernel
theorem dX0_init_124 : decode cX0_init 124 = .ok (.iconst 0, 1) := by decide +kernel
theorem dX0_init_125 : decode cX0_init 125 = .ok (.istore_n 1, 1) := by decide +kernel
theorem dX0_init_126 : decode cX0_init 126 = .ok (.iload_n 1, 1) := by decide +kernel
theorem dX0_init_127 : decode cX0_init 127 = .ok (.bipush 24, 2) := by decide +kernel
theorem dX0_init_129 : decode cX0_init 129 = .ok (.if_icmp .ge 16, 3) := by decide +kernel
theorem dX0_init_132 : decode cX0_init 132 = .ok (.aload_n 0, 1) := by decide +kernel
theorem dX0_init_133 : decode cX0_init 133 = .ok (.getfield 13, 3) := by decide +kernel
theorem dX0_init_136 : decode cX0_init 136 = .ok (.iload_n 1, 1) := by decide +kernel
theorem dX0_init_137 : decode cX0_init 137 = .ok (.iconst (-1), 1) := by decide +kernel
theorem dX0_init_138 : decode cX0_init 138 = .ok (.iastore, 1) := by decide +kernel
theorem dX0_init_139 : decode cX0_init 139 = .ok (.iinc 1 1, 3) := by decide +kernel
theorem dX0_init_142 : decode cX0_init 142 = .ok (.goto (-16), 3) := by decide +kernel
theorem dX0_init_145 : decode cX0_init 145 = .ok (.iconst 0, 1) := by decide +kernel
theorem dX0_init_146 : decode cX0_init 146 = .ok (.istore_n 1, 1) := by decide +kernel
theorem dX0_init_147 : decode cX0_init 147 = .ok (.iload_n 1, 1) := by decide +kernel
theorem dX0_init_148 : decode cX0_init 148 = .ok (.iconst 4, 1) := by decide +kernel
theorem dX0_init_149 : decode cX0_init 149 = .ok (.if_icmp .ge 16, 3) := by decide +kernel
theorem dX0_init_152 : decode cX0_init 152 = .ok (.aload_n 0, 1) := by decide +kernel
theorem dX0_init_153 : decode cX0_init 153 = .ok (.getfield 29, 3) := by decide +kernel
theorem dX0_init_156 : decode cX0_init 156 = .ok (.iload_n 1, 1) := by decide +kernel
theorem dX0_init_157 : decode cX0_init 157 = .ok (.iconst (-1), 1) := by decide +kernel
theorem dX0_init_158 : decode cX0_init 158 = .ok (.iastore, 1) := by decide +kernel
theorem dX0_init_159 : decode cX0_init 159 = .ok (.iinc 1 1, 3) := by decide +kernel
theorem dX0_init_162 : decode cX0_init 162 = .ok (.goto (-15), 3) := by decide +kernel
theorem dX0_init_165 : decode cX0_init 165 = .ok (.aload_n 0, 1) := by decide +kernel
theorem dX0_init_166 : decode cX0_init 166 = .ok (.getfield 7, 3) := by decide +kernel
theorem dX0_init_169 : decode cX0_init 169 = .ok (.iconst 0, 1) := by decide +kernel
theorem dX0_init_170 : decode cX0_init 170 = .ok (.iconst 1, 1) := by decide +kernel
theorem dX0_init_171 : decode cX0_init 171 = .ok (.bastore, 1) := by decide +kernel
theorem dX0_init_172 : decode cX0_init 172 = .ok (.aload_n 0, 1) := by decide +kernel
theorem dX0_init_173 : decode cX0_init 173 = .ok (.iconst 1, 1) := by decide +kernel
theorem dX0_init_174 : decode cX0_init 174 = .ok (.putfield 56, 3) := by decide +kernel
theorem dX0_init_177 : decode cX0_init 177 = .ok (.return_, 1) := by decide +kernel
abbrev cX0_open : ByteArray := prog_1_method_2_code
def yX0_open : MethodName := ⟨RX0, "open", "(II)I"⟩
theorem dX0_open_0 : decode cX0_open 0 = .ok (.aload_n 0, 1) := by decide +kernel
theorem dX0_open_1 : decode cX0_open 1 = .ok (.iload_n 1, 1) := by decide +kernel
theorem dX0_open_2 : decode cX0_open 2 = .ok (.invokevirtual 60, 3) := by decide +kernel
theorem dX0_open_5 : decode cX0_open 5 = .ok (.ifCond .eq 10, 3) := by decide +kernel
theorem dX0_open_8 : decode cX0_open 8 = .ok (.iload_n 2, 1) := by decide +kernel
theorem dX0_open_9 : decode cX0_open 9 = .ok (.invokestatic 64, 3) := by decide +kernel
theorem dX0_open_12 : decode cX0_open 12 = .ok (.ifCond .ne 5, 3) := by decide +kernel
theorem dX0_open_15 : decode cX0_open 15 = .ok (.iconst (-1), 1) := by decide +kernel
theorem dX0_open_16 : decode cX0_open 16 = .ok (.ireturn, 1) := by decide +kernel
theorem dX0_open_17 : decode cX0_open 17 = .ok (.aload_n 0, 1) := by decide +kernel
theorem dX0_open_18 : decode cX0_open 18 = .ok (.iload_n 1, 1) := by decide +kernel
theorem dX0_open_19 : decode cX0_open 19 = .ok (.iconst 0, 1) := by decide +kernel
theorem dX0_open_20 : decode cX0_open 20 = .ok (.invokevirtual 67, 3) := by decide +kernel
theorem dX0_open_23 : decode cX0_open 23 = .ok (.istore_n 3, 1) := by decide +kernel
theorem dX0_open_24 : decode cX0_open 24 = .ok (.iload_n 3, 1) := by decide +kernel
theorem dX0_open_25 : decode cX0_open 25 = .ok (.ifCond .ge 6, 3) := by decide +kernel
theorem dX0_open_28 : decode cX0_open 28 = .ok (.bipush (-2), 2) := by decide +kernel
theorem dX0_open_30 : decode cX0_open 30 = .ok (.ireturn, 1) := by decide +kernel
theorem dX0_open_31 : decode cX0_open 31 = .ok (.aload_n 0, 1) := by decide +kernel
theorem dX0_open_32 : decode cX0_open 32 = .ok (.getfield 29, 3) := by decide +kernel
theorem dX0_open_35 : decode cX0_open 35 = .ok (.iload_n 2, 1) := by decide +kernel
theorem dX0_open_36 : decode cX0_open 36 = .ok (.iaload, 1) := by decide +kernel
theorem dX0_open_37 : decode cX0_open 37 = .ok (.ifCond .ge 33, 3) := by decide +kernel
theorem dX0_open_40 : decode cX0_open 40 = .ok (.aload_n 0, 1) := by decide +kernel
theorem dX0_open_41 : decode cX0_open 41 = .ok (.invokevirtual 71, 3) := by decide +kernel
theorem dX0_open_44 : decode cX0_open 44 = .ok (.istore 4, 2) := by decide +kernel
theorem dX0_open_46 : decode cX0_open 46 = .ok (.aload_n 0, 1) := by decide +kernel
theorem dX0_open_47 : decode cX0_open 47 = .ok (.getfield 29, 3) := by decide +kernel
theorem dX0_open_50 : decode cX0_open 50 = .ok (.iload_n 2, 1) := by decide +kernel
theorem dX0_open_51 : decode cX0_open 51 = .ok (.iload 4, 2) := by decide +kernel
theorem dX0_open_53 : decode cX0_open 53 = .ok (.iastore, 1) := by decide +kernel
theorem dX0_open_54 : decode cX0_open 54 = .ok (.aload_n 0, 1) := by decide +kernel
theorem dX0_open_55 : decode cX0_open 55 = .ok (.getfield 32, 3) := by decide +kernel
theorem dX0_open_58 : decode cX0_open 58 = .ok (.iload 4, 2) := by decide +kernel
theorem dX0_open_60 : decode cX0_open 60 = .ok (.iconst 1, 1) := by decide +kernel
theorem dX0_open_61 : decode cX0_open 61 = .ok (.iastore, 1) := by decide +kernel
theorem dX0_open_62 : decode cX0_open 62 = .ok (.aload_n 0, 1) := by decide +kernel
theorem dX0_open_63 : decode cX0_open 63 = .ok (.getfield 35, 3) := by decide +kernel
theorem dX0_open_66 : decode cX0_open 66 = .ok (.iload 4, 2) := by decide +kernel
theorem dX0_open_68 : decode cX0_open 68 = .ok (.iconst 0, 1) := by decide +kernel
theorem dX0_open_69 : decode cX0_open 69 = .ok (.iastore, 1) := by decide +kernel
theorem dX0_open_70 : decode cX0_open 70 = .ok (.aload_n 0, 1) := by decide +kernel
theorem dX0_open_71 : decode cX0_open 71 = .ok (.getfield 32, 3) := by decide +kernel
theorem dX0_open_74 : decode cX0_open 74 = .ok (.aload_n 0, 1) := by decide +kernel
theorem dX0_open_75 : decode cX0_open 75 = .ok (.getfield 29, 3) := by decide +kernel
theorem dX0_open_78 : decode cX0_open 78 = .ok (.iload_n 2, 1) := by decide +kernel
theorem dX0_open_79 : decode cX0_open 79 = .ok (.iaload, 1) := by decide +kernel
theorem dX0_open_80 : decode cX0_open 80 = .ok (.dup2, 1) := by decide +kernel
theorem dX0_open_81 : decode cX0_open 81 = .ok (.iaload, 1) := by decide +kernel
theorem dX0_open_82 : decode cX0_open 82 = .ok (.iconst 1, 1) := by decide +kernel
theorem dX0_open_83 : decode cX0_open 83 = .ok (.iadd, 1) := by decide +kernel
theorem dX0_open_84 : decode cX0_open 84 = .ok (.iastore, 1) := by decide +kernel
theorem dX0_open_85 : decode cX0_open 85 = .ok (.aload_n 0, 1) := by decide +kernel
theorem dX0_open_86 : decode cX0_open 86 = .ok (.getfield 13, 3) := by decide +kernel
theorem dX0_open_89 : decode cX0_open 89 = .ok (.bipush 6, 2) := by decide +kernel
theorem dX0_open_91 : decode cX0_open 91 = .ok (.iload_n 1, 1) := by decide +kernel
theorem dX0_open_92 : decode cX0_open 92 = .ok (.imul, 1) := by decide +kernel
theorem dX0_open_93 : decode cX0_open 93 = .ok (.iload_n 3, 1) := by decide +kernel
theorem dX0_open_94 : decode cX0_open 94 = .ok (.iadd, 1) := by decide +kernel
theorem dX0_open_95 : decode cX0_open 95 = .ok (.aload_n 0, 1) := by decide +kernel
theorem dX0_open_96 : decode cX0_open 96 = .ok (.iconst 1, 1) := by decide +kernel
theorem dX0_open_97 : decode cX0_open 97 = .ok (.aload_n 0, 1) := by decide +kernel
theorem dX0_open_98 : decode cX0_open 98 = .ok (.getfield 29, 3) := by decide +kernel
theorem dX0_open_101 : decode cX0_open 101 = .ok (.iload_n 2, 1) := by decide +kernel
theorem dX0_open_102 : decode cX0_open 102 = .ok (.iaload, 1) := by decide +kernel
theorem dX0_open_103 : decode cX0_open 103 = .ok (.invokevirtual 75, 3) := by decide +kernel
theorem dX0_open_106 : decode cX0_open 106 = .ok (.iastore, 1) := by decide +kernel
theorem dX0_open_107 : decode cX0_open 107 = .ok (.iload_n 3, 1) := by decide +kernel
theorem dX0_open_108 : decode cX0_open 108 = .ok (.ireturn, 1) := by decide +kernel
abbrev cX0_isAlive : ByteArray := prog_1_method_18_code
def yX0_isAlive : MethodName := ⟨RX0, "isAlive", "(I)Z"⟩
theorem dX0_isAlive_0 : decode cX0_isAlive 0 = .ok (.iload_n 1, 1) := by decide +kernel
theorem dX0_isAlive_1 : decode cX0_isAlive 1 = .ok (.ifCond .lt 21, 3) := by decide +kernel
theorem dX0_isAlive_4 : decode cX0_isAlive 4 = .ok (.iload_n 1, 1) := by decide +kernel
theorem dX0_isAlive_5 : decode cX0_isAlive 5 = .ok (.iconst 3, 1) := by decide +kernel
theorem dX0_isAlive_6 : decode cX0_isAlive 6 = .ok (.if_icmp .gt 16, 3) := by decide +kernel
theorem dX0_isAlive_9 : decode cX0_isAlive 9 = .ok (.aload_n 0, 1) := by decide +kernel
theorem dX0_isAlive_10 : decode cX0_isAlive 10 = .ok (.getfield 7, 3) := by decide +kernel
theorem dX0_isAlive_13 : decode cX0_isAlive 13 = .ok (.iload_n 1, 1) := by decide +kernel
theorem dX0_isAlive_14 : decode cX0_isAlive 14 = .ok (.baload, 1) := by decide +kernel
theorem dX0_isAlive_15 : decode cX0_isAlive 15 = .ok (.ifCond .eq 7, 3) := by decide +kernel
theorem dX0_isAlive_18 : decode cX0_isAlive 18 = .ok (.iconst 1, 1) := by decide +kernel
theorem dX0_isAlive_19 : decode cX0_isAlive 19 = .ok (.goto 4, 3) := by decide +kernel
theorem dX0_isAlive_22 : decode cX0_isAlive 22 = .ok (.iconst 0, 1) := by decide +kernel
theorem dX0_isAlive_23 : decode cX0_isAlive 23 = .ok (.ireturn, 1) := by decide +kernel
abbrev cX0_isName : ByteArray := prog_1_method_19_code
def yX0_isName : MethodName := ⟨RX0, "isName", "(I)Z"⟩
theorem dX0_isName_0 : decode cX0_isName 0 = .ok (.iload_n 0, 1) := by decide +kernel
theorem dX0_isName_1 : decode cX0_isName 1 = .ok (.ifCond .lt 12, 3) := by decide +kernel
theorem dX0_isName_4 : decode cX0_isName 4 = .ok (.iload_n 0, 1) := by decide +kernel
theorem dX0_isName_5 : decode cX0_isName 5 = .ok (.iconst 3, 1) := by decide +kernel
theorem dX0_isName_6 : decode cX0_isName 6 = .ok (.if_icmp .gt 7, 3) := by decide +kernel
theorem dX0_isName_9 : decode cX0_isName 9 = .ok (.iconst 1, 1) := by decide +kernel
theorem dX0_isName_10 : decode cX0_isName 10 = .ok (.goto 4, 3) := by decide +kernel
theorem dX0_isName_13 : decode cX0_isName 13 = .ok (.iconst 0, 1) := by decide +kernel
theorem dX0_isName_14 : decode cX0_isName 14 = .ok (.ireturn, 1) := by decide +kernel
abbrev cX0_freeDescriptor : ByteArray := prog_1_method_21_code
def yX0_freeDescriptor : MethodName := ⟨RX0, "freeDescriptor", "(II)I"⟩
theorem dX0_freeDescriptor_0 : decode cX0_freeDescriptor 0 = .ok (.iload_n 2, 1) := by decide +kernel
theorem dX0_freeDescriptor_1 : decode cX0_freeDescriptor 1 = .ok (.istore_n 3, 1) := by decide +kernel
theorem dX0_freeDescriptor_2 : decode cX0_freeDescriptor 2 = .ok (.iload_n 3, 1) := by decide +kernel
theorem dX0_freeDescriptor_3 : decode cX0_freeDescriptor 3 = .ok (.bipush 6, 2) := by decide +kernel
theorem dX0_freeDescriptor_5 : decode cX0_freeDescriptor 5 = .ok (.if_icmp .ge 25, 3) := by decide +kernel
theorem dX0_freeDescriptor_8 : decode cX0_freeDescriptor 8 = .ok (.aload_n 0, 1) := by decide +kernel
theorem dX0_freeDescriptor_9 : decode cX0_freeDescriptor 9 = .ok (.getfield 13, 3) := by decide +kernel
theorem dX0_freeDescriptor_12 : decode cX0_freeDescriptor 12 = .ok (.bipush 6, 2) := by decide +kernel
theorem dX0_freeDescriptor_14 : decode cX0_freeDescriptor 14 = .ok (.iload_n 1, 1) := by decide +kernel
theorem dX0_freeDescriptor_15 : decode cX0_freeDescriptor 15 = .ok (.imul, 1) := by decide +kernel
theorem dX0_freeDescriptor_16 : decode cX0_freeDescriptor 16 = .ok (.iload_n 3, 1) := by decide +kernel
theorem dX0_freeDescriptor_17 : decode cX0_freeDescriptor 17 = .ok (.iadd, 1) := by decide +kernel
theorem dX0_freeDescriptor_18 : decode cX0_freeDescriptor 18 = .ok (.iaload, 1) := by decide +kernel
theorem dX0_freeDescriptor_19 : decode cX0_freeDescriptor 19 = .ok (.ifCond .ge 5, 3) := by decide +kernel
theorem dX0_freeDescriptor_22 : decode cX0_freeDescriptor 22 = .ok (.iload_n 3, 1) := by decide +kernel
theorem dX0_freeDescriptor_23 : decode cX0_freeDescriptor 23 = .ok (.ireturn, 1) := by decide +kernel
theorem dX0_freeDescriptor_24 : decode cX0_freeDescriptor 24 = .ok (.iinc 3 1, 3) := by decide +kernel
theorem dX0_freeDescriptor_27 : decode cX0_freeDescriptor 27 = .ok (.goto (-25), 3) := by decide +kernel
theorem dX0_freeDescriptor_30 : decode cX0_freeDescriptor 30 = .ok (.iconst (-1), 1) := by decide +kernel
theorem dX0_freeDescriptor_31 : decode cX0_freeDescriptor 31 = .ok (.ireturn, 1) := by decide +kernel
abbrev cX0_freeFile : ByteArray := prog_1_method_23_code
def yX0_freeFile : MethodName := ⟨RX0, "freeFile", "()I"⟩
theorem dX0_freeFile_0 : decode cX0_freeFile 0 = .ok (.iconst 0, 1) := by decide +kernel
theorem dX0_freeFile_1 : decode cX0_freeFile 1 = .ok (.istore_n 1, 1) := by decide +kernel
theorem dX0_freeFile_2 : decode cX0_freeFile 2 = .ok (.bipush 27, 2) := by decide +kernel
theorem dX0_freeFile_4 : decode cX0_freeFile 4 = .ok (.istore_n 2, 1) := by decide +kernel
theorem dX0_freeFile_5 : decode cX0_freeFile 5 = .ok (.iload_n 2, 1) := by decide +kernel
theorem dX0_freeFile_6 : decode cX0_freeFile 6 = .ok (.ifCond .lt 24, 3) := by decide +kernel
theorem dX0_freeFile_9 : decode cX0_freeFile 9 = .ok (.aload_n 0, 1) := by decide +kernel
theorem dX0_freeFile_10 : decode cX0_freeFile 10 = .ok (.getfield 32, 3) := by decide +kernel
theorem dX0_freeFile_13 : decode cX0_freeFile 13 = .ok (.iload_n 2, 1) := by decide +kernel
theorem dX0_freeFile_14 : decode cX0_freeFile 14 = .ok (.iaload, 1) := by decide +kernel
theorem dX0_freeFile_15 : decode cX0_freeFile 15 = .ok (.ifCond .ne 7, 3) := by decide +kernel
theorem dX0_freeFile_18 : decode cX0_freeFile 18 = .ok (.iload_n 2, 1) := by decide +kernel
theorem dX0_freeFile_19 : decode cX0_freeFile 19 = .ok (.goto 4, 3) := by decide +kernel
theorem dX0_freeFile_22 : decode cX0_freeFile 22 = .ok (.iload_n 1, 1) := by decide +kernel
theorem dX0_freeFile_23 : decode cX0_freeFile 23 = .ok (.istore_n 1, 1) := by decide +kernel
theorem dX0_freeFile_24 : decode cX0_freeFile 24 = .ok (.iinc 2 (-1), 3) := by decide +kernel
theorem dX0_freeFile_27 : decode cX0_freeFile 27 = .ok (.goto (-22), 3) := by decide +kernel
theorem dX0_freeFile_30 : decode cX0_freeFile 30 = .ok (.iload_n 1, 1) := by decide +kernel
theorem dX0_freeFile_31 : decode cX0_freeFile 31 = .ok (.ireturn, 1) := by decide +kernel
abbrev cX0_newOpening : ByteArray := prog_1_method_22_code
def yX0_newOpening : MethodName := ⟨RX0, "newOpening", "(II)I"⟩
theorem dX0_newOpening_0 : decode cX0_newOpening 0 = .ok (.iconst 0, 1) := by decide +kernel
theorem dX0_newOpening_1 : decode cX0_newOpening 1 = .ok (.istore_n 3, 1) := by decide +kernel
theorem dX0_newOpening_2 : decode cX0_newOpening 2 = .ok (.bipush 23, 2) := by decide +kernel
theorem dX0_newOpening_4 : decode cX0_newOpening 4 = .ok (.istore 4, 2) := by decide +kernel
theorem dX0_newOpening_6 : decode cX0_newOpening 6 = .ok (.iload 4, 2) := by decide +kernel
theorem dX0_newOpening_8 : decode cX0_newOpening 8 = .ok (.ifCond .lt 26, 3) := by decide +kernel
theorem dX0_newOpening_11 : decode cX0_newOpening 11 = .ok (.aload_n 0, 1) := by decide +kernel
theorem dX0_newOpening_12 : decode cX0_newOpening 12 = .ok (.getfield 17, 3) := by decide +kernel
theorem dX0_newOpening_15 : decode cX0_newOpening 15 = .ok (.iload 4, 2) := by decide +kernel
theorem dX0_newOpening_17 : decode cX0_newOpening 17 = .ok (.iaload, 1) := by decide +kernel
theorem dX0_newOpening_18 : decode cX0_newOpening 18 = .ok (.ifCond .ne 8, 3) := by decide +kernel
theorem dX0_newOpening_21 : decode cX0_newOpening 21 = .ok (.iload 4, 2) := by decide +kernel
theorem dX0_newOpening_23 : decode cX0_newOpening 23 = .ok (.goto 4, 3) := by decide +kernel
theorem dX0_newOpening_26 : decode cX0_newOpening 26 = .ok (.iload_n 3, 1) := by decide +kernel
theorem dX0_newOpening_27 : decode cX0_newOpening 27 = .ok (.istore_n 3, 1) := by decide +kernel
theorem dX0_newOpening_28 : decode cX0_newOpening 28 = .ok (.iinc 4 (-1), 3) := by decide +kernel
theorem dX0_newOpening_31 : decode cX0_newOpening 31 = .ok (.goto (-25), 3) := by decide +kernel
theorem dX0_newOpening_34 : decode cX0_newOpening 34 = .ok (.aload_n 0, 1) := by decide +kernel
theorem dX0_newOpening_35 : decode cX0_newOpening 35 = .ok (.getfield 17, 3) := by decide +kernel
theorem dX0_newOpening_38 : decode cX0_newOpening 38 = .ok (.iload_n 3, 1) := by decide +kernel
theorem dX0_newOpening_39 : decode cX0_newOpening 39 = .ok (.iconst 1, 1) := by decide +kernel
theorem dX0_newOpening_40 : decode cX0_newOpening 40 = .ok (.iastore, 1) := by decide +kernel
theorem dX0_newOpening_41 : decode cX0_newOpening 41 = .ok (.aload_n 0, 1) := by decide +kernel
theorem dX0_newOpening_42 : decode cX0_newOpening 42 = .ok (.getfield 20, 3) := by decide +kernel
theorem dX0_newOpening_45 : decode cX0_newOpening 45 = .ok (.iload_n 3, 1) := by decide +kernel
theorem dX0_newOpening_46 : decode cX0_newOpening 46 = .ok (.iload_n 1, 1) := by decide +kernel
theorem dX0_newOpening_47 : decode cX0_newOpening 47 = .ok (.iastore, 1) := by decide +kernel
theorem dX0_newOpening_48 : decode cX0_newOpening 48 = .ok (.aload_n 0, 1) := by decide +kernel
theorem dX0_newOpening_49 : decode cX0_newOpening 49 = .ok (.getfield 23, 3) := by decide +kernel
theorem dX0_newOpening_52 : decode cX0_newOpening 52 = .ok (.iload_n 3, 1) := by decide +kernel
theorem dX0_newOpening_53 : decode cX0_newOpening 53 = .ok (.iload_n 2, 1) := by decide +kernel
theorem dX0_newOpening_54 : decode cX0_newOpening 54 = .ok (.iastore, 1) := by decide +kernel
theorem dX0_newOpening_55 : decode cX0_newOpening 55 = .ok (.aload_n 0, 1) := by decide +kernel
theorem dX0_newOpening_56 : decode cX0_newOpening 56 = .ok (.getfield 26, 3) := by decide +kernel
theorem dX0_newOpening_59 : decode cX0_newOpening 59 = .ok (.iload_n 3, 1) := by decide +kernel
theorem dX0_newOpening_60 : decode cX0_newOpening 60 = .ok (.iconst 0, 1) := by decide +kernel
theorem dX0_newOpening_61 : decode cX0_newOpening 61 = .ok (.iastore, 1) := by decide +kernel
theorem dX0_newOpening_62 : decode cX0_newOpening 62 = .ok (.iload_n 3, 1) := by decide +kernel
theorem dX0_newOpening_63 : decode cX0_newOpening 63 = .ok (.ireturn, 1) := by decide +kernel
abbrev cX0_pipe : ByteArray := prog_1_method_3_code
def yX0_pipe : MethodName := ⟨RX0, "pipe", "(I)I"⟩
theorem dX0_pipe_0 : decode cX0_pipe 0 = .ok (.aload_n 0, 1) := by decide +kernel
theorem dX0_pipe_1 : decode cX0_pipe 1 = .ok (.iload_n 1, 1) := by decide +kernel
theorem dX0_pipe_2 : decode cX0_pipe 2 = .ok (.invokevirtual 60, 3) := by decide +kernel
theorem dX0_pipe_5 : decode cX0_pipe 5 = .ok (.ifCond .ne 5, 3) := by decide +kernel
theorem dX0_pipe_8 : decode cX0_pipe 8 = .ok (.iconst (-1), 1) := by decide +kernel
theorem dX0_pipe_9 : decode cX0_pipe 9 = .ok (.ireturn, 1) := by decide +kernel
theorem dX0_pipe_10 : decode cX0_pipe 10 = .ok (.aload_n 0, 1) := by decide +kernel
theorem dX0_pipe_11 : decode cX0_pipe 11 = .ok (.iload_n 1, 1) := by decide +kernel
theorem dX0_pipe_12 : decode cX0_pipe 12 = .ok (.iconst 0, 1) := by decide +kernel
theorem dX0_pipe_13 : decode cX0_pipe 13 = .ok (.invokevirtual 67, 3) := by decide +kernel
theorem dX0_pipe_16 : decode cX0_pipe 16 = .ok (.istore_n 2, 1) := by decide +kernel
theorem dX0_pipe_17 : decode cX0_pipe 17 = .ok (.iload_n 2, 1) := by decide +kernel
theorem dX0_pipe_18 : decode cX0_pipe 18 = .ok (.ifCond .ge 7, 3) := by decide +kernel
theorem dX0_pipe_21 : decode cX0_pipe 21 = .ok (.iconst (-1), 1) := by decide +kernel
theorem dX0_pipe_22 : decode cX0_pipe 22 = .ok (.goto 11, 3) := by decide +kernel
theorem dX0_pipe_25 : decode cX0_pipe 25 = .ok (.aload_n 0, 1) := by decide +kernel
theorem dX0_pipe_26 : decode cX0_pipe 26 = .ok (.iload_n 1, 1) := by decide +kernel
theorem dX0_pipe_27 : decode cX0_pipe 27 = .ok (.iload_n 2, 1) := by decide +kernel
theorem dX0_pipe_28 : decode cX0_pipe 28 = .ok (.iconst 1, 1) := by decide +kernel
theorem dX0_pipe_29 : decode cX0_pipe 29 = .ok (.iadd, 1) := by decide +kernel
theorem dX0_pipe_30 : decode cX0_pipe 30 = .ok (.invokevirtual 67, 3) := by decide +kernel
theorem dX0_pipe_33 : decode cX0_pipe 33 = .ok (.istore_n 3, 1) := by decide +kernel
theorem dX0_pipe_34 : decode cX0_pipe 34 = .ok (.iload_n 3, 1) := by decide +kernel
theorem dX0_pipe_35 : decode cX0_pipe 35 = .ok (.ifCond .ge 6, 3) := by decide +kernel
theorem dX0_pipe_38 : decode cX0_pipe 38 = .ok (.bipush (-2), 2) := by decide +kernel
theorem dX0_pipe_40 : decode cX0_pipe 40 = .ok (.ireturn, 1) := by decide +kernel
theorem dX0_pipe_41 : decode cX0_pipe 41 = .ok (.aload_n 0, 1) := by decide +kernel
theorem dX0_pipe_42 : decode cX0_pipe 42 = .ok (.invokevirtual 78, 3) := by decide +kernel
theorem dX0_pipe_45 : decode cX0_pipe 45 = .ok (.istore 4, 2) := by decide +kernel
theorem dX0_pipe_47 : decode cX0_pipe 47 = .ok (.aload_n 0, 1) := by decide +kernel
theorem dX0_pipe_48 : decode cX0_pipe 48 = .ok (.getfield 41, 3) := by decide +kernel
theorem dX0_pipe_51 : decode cX0_pipe 51 = .ok (.iload 4, 2) := by decide +kernel
theorem dX0_pipe_53 : decode cX0_pipe 53 = .ok (.iconst 1, 1) := by decide +kernel
theorem dX0_pipe_54 : decode cX0_pipe 54 = .ok (.bastore, 1) := by decide +kernel
theorem dX0_pipe_55 : decode cX0_pipe 55 = .ok (.aload_n 0, 1) := by decide +kernel
theorem dX0_pipe_56 : decode cX0_pipe 56 = .ok (.getfield 44, 3) := by decide +kernel
theorem dX0_pipe_59 : decode cX0_pipe 59 = .ok (.iload 4, 2) := by decide +kernel
theorem dX0_pipe_61 : decode cX0_pipe 61 = .ok (.iconst 1, 1) := by decide +kernel
theorem dX0_pipe_62 : decode cX0_pipe 62 = .ok (.bastore, 1) := by decide +kernel
theorem dX0_pipe_63 : decode cX0_pipe 63 = .ok (.aload_n 0, 1) := by decide +kernel
theorem dX0_pipe_64 : decode cX0_pipe 64 = .ok (.getfield 47, 3) := by decide +kernel
theorem dX0_pipe_67 : decode cX0_pipe 67 = .ok (.iload 4, 2) := by decide +kernel
theorem dX0_pipe_69 : decode cX0_pipe 69 = .ok (.iconst 0, 1) := by decide +kernel
theorem dX0_pipe_70 : decode cX0_pipe 70 = .ok (.iastore, 1) := by decide +kernel
theorem dX0_pipe_71 : decode cX0_pipe 71 = .ok (.aload_n 0, 1) := by decide +kernel
theorem dX0_pipe_72 : decode cX0_pipe 72 = .ok (.getfield 50, 3) := by decide +kernel
theorem dX0_pipe_75 : decode cX0_pipe 75 = .ok (.iload 4, 2) := by decide +kernel
theorem dX0_pipe_77 : decode cX0_pipe 77 = .ok (.iconst 0, 1) := by decide +kernel
theorem dX0_pipe_78 : decode cX0_pipe 78 = .ok (.iastore, 1) := by decide +kernel
theorem dX0_pipe_79 : decode cX0_pipe 79 = .ok (.aload_n 0, 1) := by decide +kernel
theorem dX0_pipe_80 : decode cX0_pipe 80 = .ok (.getfield 13, 3) := by decide +kernel
theorem dX0_pipe_83 : decode cX0_pipe 83 = .ok (.bipush 6, 2) := by decide +kernel
theorem dX0_pipe_85 : decode cX0_pipe 85 = .ok (.iload_n 1, 1) := by decide +kernel
theorem dX0_pipe_86 : decode cX0_pipe 86 = .ok (.imul, 1) := by decide +kernel
theorem dX0_pipe_87 : decode cX0_pipe 87 = .ok (.iload_n 2, 1) := by decide +kernel
theorem dX0_pipe_88 : decode cX0_pipe 88 = .ok (.iadd, 1) := by decide +kernel
theorem dX0_pipe_89 : decode cX0_pipe 89 = .ok (.aload_n 0, 1) := by decide +kernel
theorem dX0_pipe_90 : decode cX0_pipe 90 = .ok (.iconst 2, 1) := by decide +kernel
theorem dX0_pipe_91 : decode cX0_pipe 91 = .ok (.iload 4, 2) := by decide +kernel
theorem dX0_pipe_93 : decode cX0_pipe 93 = .ok (.invokevirtual 75, 3) := by decide +kernel
theorem dX0_pipe_96 : decode cX0_pipe 96 = .ok (.iastore, 1) := by decide +kernel
theorem dX0_pipe_97 : decode cX0_pipe 97 = .ok (.aload_n 0, 1) := by decide +kernel
theorem dX0_pipe_98 : decode cX0_pipe 98 = .ok (.getfield 13, 3) := by decide +kernel
theorem dX0_pipe_101 : decode cX0_pipe 101 = .ok (.bipush 6, 2) := by decide +kernel
theorem dX0_pipe_103 : decode cX0_pipe 103 = .ok (.iload_n 1, 1) := by decide +kernel
theorem dX0_pipe_104 : decode cX0_pipe 104 = .ok (.imul, 1) := by decide +kernel
theorem dX0_pipe_105 : decode cX0_pipe 105 = .ok (.iload_n 3, 1) := by decide +kernel
theorem dX0_pipe_106 : decode cX0_pipe 106 = .ok (.iadd, 1) := by decide +kernel
theorem dX0_pipe_107 : decode cX0_pipe 107 = .ok (.aload_n 0, 1) := by decide +kernel
theorem dX0_pipe_108 : decode cX0_pipe 108 = .ok (.iconst 3, 1) := by decide +kernel
theorem dX0_pipe_109 : decode cX0_pipe 109 = .ok (.iload 4, 2) := by decide +kernel
theorem dX0_pipe_111 : decode cX0_pipe 111 = .ok (.invokevirtual 75, 3) := by decide +kernel
theorem dX0_pipe_114 : decode cX0_pipe 114 = .ok (.iastore, 1) := by decide +kernel
theorem dX0_pipe_115 : decode cX0_pipe 115 = .ok (.bipush 8, 2) := by decide +kernel
theorem dX0_pipe_117 : decode cX0_pipe 117 = .ok (.iload_n 2, 1) := by decide +kernel
theorem dX0_pipe_118 : decode cX0_pipe 118 = .ok (.imul, 1) := by decide +kernel
theorem dX0_pipe_119 : decode cX0_pipe 119 = .ok (.iload_n 3, 1) := by decide +kernel
theorem dX0_pipe_120 : decode cX0_pipe 120 = .ok (.iadd, 1) := by decide +kernel
theorem dX0_pipe_121 : decode cX0_pipe 121 = .ok (.ireturn, 1) := by decide +kernel
abbrev cX0_freePipe : ByteArray := prog_1_method_24_code
def yX0_freePipe : MethodName := ⟨RX0, "freePipe", "()I"⟩
theorem dX0_freePipe_0 : decode cX0_freePipe 0 = .ok (.iconst 0, 1) := by decide +kernel
theorem dX0_freePipe_1 : decode cX0_freePipe 1 = .ok (.istore_n 1, 1) := by decide +kernel
theorem dX0_freePipe_2 : decode cX0_freePipe 2 = .ok (.bipush 23, 2) := by decide +kernel
theorem dX0_freePipe_4 : decode cX0_freePipe 4 = .ok (.istore_n 2, 1) := by decide +kernel
theorem dX0_freePipe_5 : decode cX0_freePipe 5 = .ok (.iload_n 2, 1) := by decide +kernel
theorem dX0_freePipe_6 : decode cX0_freePipe 6 = .ok (.ifCond .lt 33, 3) := by decide +kernel
theorem dX0_freePipe_9 : decode cX0_freePipe 9 = .ok (.aload_n 0, 1) := by decide +kernel
theorem dX0_freePipe_10 : decode cX0_freePipe 10 = .ok (.getfield 41, 3) := by decide +kernel
theorem dX0_freePipe_13 : decode cX0_freePipe 13 = .ok (.iload_n 2, 1) := by decide +kernel
theorem dX0_freePipe_14 : decode cX0_freePipe 14 = .ok (.baload, 1) := by decide +kernel
theorem dX0_freePipe_15 : decode cX0_freePipe 15 = .ok (.ifCond .ne 12, 3) := by decide +kernel
theorem dX0_freePipe_18 : decode cX0_freePipe 18 = .ok (.aload_n 0, 1) := by decide +kernel
theorem dX0_freePipe_19 : decode cX0_freePipe 19 = .ok (.getfield 44, 3) := by decide +kernel
theorem dX0_freePipe_22 : decode cX0_freePipe 22 = .ok (.iload_n 2, 1) := by decide +kernel
theorem dX0_freePipe_23 : decode cX0_freePipe 23 = .ok (.baload, 1) := by decide +kernel
theorem dX0_freePipe_24 : decode cX0_freePipe 24 = .ok (.ifCond .eq 7, 3) := by decide +kernel
theorem dX0_freePipe_27 : decode cX0_freePipe 27 = .ok (.iload_n 1, 1) := by decide +kernel
theorem dX0_freePipe_28 : decode cX0_freePipe 28 = .ok (.goto 4, 3) := by decide +kernel
theorem dX0_freePipe_31 : decode cX0_freePipe 31 = .ok (.iload_n 2, 1) := by decide +kernel
theorem dX0_freePipe_32 : decode cX0_freePipe 32 = .ok (.istore_n 1, 1) := by decide +kernel
theorem dX0_freePipe_33 : decode cX0_freePipe 33 = .ok (.iinc 2 (-1), 3) := by decide +kernel
theorem dX0_freePipe_36 : decode cX0_freePipe 36 = .ok (.goto (-31), 3) := by decide +kernel
theorem dX0_freePipe_39 : decode cX0_freePipe 39 = .ok (.iload_n 1, 1) := by decide +kernel
theorem dX0_freePipe_40 : decode cX0_freePipe 40 = .ok (.ireturn, 1) := by decide +kernel
abbrev cX0_dup : ByteArray := prog_1_method_4_code
def yX0_dup : MethodName := ⟨RX0, "dup", "(II)I"⟩
theorem dX0_dup_0 : decode cX0_dup 0 = .ok (.aload_n 0, 1) := by decide +kernel
theorem dX0_dup_1 : decode cX0_dup 1 = .ok (.iload_n 1, 1) := by decide +kernel
theorem dX0_dup_2 : decode cX0_dup 2 = .ok (.iload_n 2, 1) := by decide +kernel
theorem dX0_dup_3 : decode cX0_dup 3 = .ok (.invokevirtual 81, 3) := by decide +kernel
theorem dX0_dup_6 : decode cX0_dup 6 = .ok (.istore_n 3, 1) := by decide +kernel
theorem dX0_dup_7 : decode cX0_dup 7 = .ok (.iload_n 3, 1) := by decide +kernel
theorem dX0_dup_8 : decode cX0_dup 8 = .ok (.ifCond .ge 5, 3) := by decide +kernel
theorem dX0_dup_11 : decode cX0_dup 11 = .ok (.iconst (-1), 1) := by decide +kernel
theorem dX0_dup_12 : decode cX0_dup 12 = .ok (.ireturn, 1) := by decide +kernel
theorem dX0_dup_13 : decode cX0_dup 13 = .ok (.aload_n 0, 1) := by decide +kernel
theorem dX0_dup_14 : decode cX0_dup 14 = .ok (.iload_n 1, 1) := by decide +kernel
theorem dX0_dup_15 : decode cX0_dup 15 = .ok (.iconst 0, 1) := by decide +kernel
theorem dX0_dup_16 : decode cX0_dup 16 = .ok (.invokevirtual 67, 3) := by decide +kernel
theorem dX0_dup_19 : decode cX0_dup 19 = .ok (.istore 4, 2) := by decide +kernel
theorem dX0_dup_21 : decode cX0_dup 21 = .ok (.iload 4, 2) := by decide +kernel
theorem dX0_dup_23 : decode cX0_dup 23 = .ok (.ifCond .ge 6, 3) := by decide +kernel
theorem dX0_dup_26 : decode cX0_dup 26 = .ok (.bipush (-2), 2) := by decide +kernel
theorem dX0_dup_28 : decode cX0_dup 28 = .ok (.ireturn, 1) := by decide +kernel
theorem dX0_dup_29 : decode cX0_dup 29 = .ok (.aload_n 0, 1) := by decide +kernel
theorem dX0_dup_30 : decode cX0_dup 30 = .ok (.getfield 13, 3) := by decide +kernel
theorem dX0_dup_33 : decode cX0_dup 33 = .ok (.bipush 6, 2) := by decide +kernel
theorem dX0_dup_35 : decode cX0_dup 35 = .ok (.iload_n 1, 1) := by decide +kernel
theorem dX0_dup_36 : decode cX0_dup 36 = .ok (.imul, 1) := by decide +kernel
theorem dX0_dup_37 : decode cX0_dup 37 = .ok (.iload 4, 2) := by decide +kernel
theorem dX0_dup_39 : decode cX0_dup 39 = .ok (.iadd, 1) := by decide +kernel
theorem dX0_dup_40 : decode cX0_dup 40 = .ok (.iload_n 3, 1) := by decide +kernel
theorem dX0_dup_41 : decode cX0_dup 41 = .ok (.iastore, 1) := by decide +kernel
theorem dX0_dup_42 : decode cX0_dup 42 = .ok (.aload_n 0, 1) := by decide +kernel
theorem dX0_dup_43 : decode cX0_dup 43 = .ok (.getfield 17, 3) := by decide +kernel
theorem dX0_dup_46 : decode cX0_dup 46 = .ok (.iload_n 3, 1) := by decide +kernel
theorem dX0_dup_47 : decode cX0_dup 47 = .ok (.dup2, 1) := by decide +kernel
theorem dX0_dup_48 : decode cX0_dup 48 = .ok (.iaload, 1) := by decide +kernel
theorem dX0_dup_49 : decode cX0_dup 49 = .ok (.iconst 1, 1) := by decide +kernel
theorem dX0_dup_50 : decode cX0_dup 50 = .ok (.iadd, 1) := by decide +kernel
theorem dX0_dup_51 : decode cX0_dup 51 = .ok (.iastore, 1) := by decide +kernel
theorem dX0_dup_52 : decode cX0_dup 52 = .ok (.iload 4, 2) := by decide +kernel
theorem dX0_dup_54 : decode cX0_dup 54 = .ok (.ireturn, 1) := by decide +kernel
abbrev cX0_openingOf : ByteArray := prog_1_method_20_code
def yX0_openingOf : MethodName := ⟨RX0, "openingOf", "(II)I"⟩
theorem dX0_openingOf_0 : decode cX0_openingOf 0 = .ok (.aload_n 0, 1) := by decide +kernel
theorem dX0_openingOf_1 : decode cX0_openingOf 1 = .ok (.iload_n 1, 1) := by decide +kernel
theorem dX0_openingOf_2 : decode cX0_openingOf 2 = .ok (.invokevirtual 60, 3) := by decide +kernel
theorem dX0_openingOf_5 : decode cX0_openingOf 5 = .ok (.ifCond .eq 12, 3) := by decide +kernel
theorem dX0_openingOf_8 : decode cX0_openingOf 8 = .ok (.iload_n 2, 1) := by decide +kernel
theorem dX0_openingOf_9 : decode cX0_openingOf 9 = .ok (.ifCond .lt 8, 3) := by decide +kernel
theorem dX0_openingOf_12 : decode cX0_openingOf 12 = .ok (.iload_n 2, 1) := by decide +kernel
theorem dX0_openingOf_13 : decode cX0_openingOf 13 = .ok (.iconst 5, 1) := by decide +kernel
theorem dX0_openingOf_14 : decode cX0_openingOf 14 = .ok (.if_icmp .le 5, 3) := by decide +kernel
theorem dX0_openingOf_17 : decode cX0_openingOf 17 = .ok (.iconst (-1), 1) := by decide +kernel
theorem dX0_openingOf_18 : decode cX0_openingOf 18 = .ok (.ireturn, 1) := by decide +kernel
theorem dX0_openingOf_19 : decode cX0_openingOf 19 = .ok (.aload_n 0, 1) := by decide +kernel
theorem dX0_openingOf_20 : decode cX0_openingOf 20 = .ok (.getfield 13, 3) := by decide +kernel
theorem dX0_openingOf_23 : decode cX0_openingOf 23 = .ok (.bipush 6, 2) := by decide +kernel
theorem dX0_openingOf_25 : decode cX0_openingOf 25 = .ok (.iload_n 1, 1) := by decide +kernel
theorem dX0_openingOf_26 : decode cX0_openingOf 26 = .ok (.imul, 1) := by decide +kernel
theorem dX0_openingOf_27 : decode cX0_openingOf 27 = .ok (.iload_n 2, 1) := by decide +kernel
theorem dX0_openingOf_28 : decode cX0_openingOf 28 = .ok (.iadd, 1) := by decide +kernel
theorem dX0_openingOf_29 : decode cX0_openingOf 29 = .ok (.iaload, 1) := by decide +kernel
theorem dX0_openingOf_30 : decode cX0_openingOf 30 = .ok (.ireturn, 1) := by decide +kernel
abbrev cX0_close : ByteArray := prog_1_method_5_code
def yX0_close : MethodName := ⟨RX0, "close", "(II)I"⟩
theorem dX0_close_0 : decode cX0_close 0 = .ok (.aload_n 0, 1) := by decide +kernel
theorem dX0_close_1 : decode cX0_close 1 = .ok (.iload_n 1, 1) := by decide +kernel
theorem dX0_close_2 : decode cX0_close 2 = .ok (.iload_n 2, 1) := by decide +kernel
theorem dX0_close_3 : decode cX0_close 3 = .ok (.invokevirtual 81, 3) := by decide +kernel
theorem dX0_close_6 : decode cX0_close 6 = .ok (.istore_n 3, 1) := by decide +kernel
theorem dX0_close_7 : decode cX0_close 7 = .ok (.iload_n 3, 1) := by decide +kernel
theorem dX0_close_8 : decode cX0_close 8 = .ok (.ifCond .ge 5, 3) := by decide +kernel
theorem dX0_close_11 : decode cX0_close 11 = .ok (.iconst (-1), 1) := by decide +kernel
theorem dX0_close_12 : decode cX0_close 12 = .ok (.ireturn, 1) := by decide +kernel
theorem dX0_close_13 : decode cX0_close 13 = .ok (.aload_n 0, 1) := by decide +kernel
theorem dX0_close_14 : decode cX0_close 14 = .ok (.getfield 13, 3) := by decide +kernel
theorem dX0_close_17 : decode cX0_close 17 = .ok (.bipush 6, 2) := by decide +kernel
theorem dX0_close_19 : decode cX0_close 19 = .ok (.iload_n 1, 1) := by decide +kernel
theorem dX0_close_20 : decode cX0_close 20 = .ok (.imul, 1) := by decide +kernel
theorem dX0_close_21 : decode cX0_close 21 = .ok (.iload_n 2, 1) := by decide +kernel
theorem dX0_close_22 : decode cX0_close 22 = .ok (.iadd, 1) := by decide +kernel
theorem dX0_close_23 : decode cX0_close 23 = .ok (.iconst (-1), 1) := by decide +kernel
theorem dX0_close_24 : decode cX0_close 24 = .ok (.iastore, 1) := by decide +kernel
theorem dX0_close_25 : decode cX0_close 25 = .ok (.aload_n 0, 1) := by decide +kernel
theorem dX0_close_26 : decode cX0_close 26 = .ok (.iload_n 3, 1) := by decide +kernel
theorem dX0_close_27 : decode cX0_close 27 = .ok (.invokevirtual 84, 3) := by decide +kernel
theorem dX0_close_30 : decode cX0_close 30 = .ok (.iconst 0, 1) := by decide +kernel
theorem dX0_close_31 : decode cX0_close 31 = .ok (.ireturn, 1) := by decide +kernel
abbrev cX0_letGo : ByteArray := prog_1_method_25_code
def yX0_letGo : MethodName := ⟨RX0, "letGo", "(I)V"⟩
theorem dX0_letGo_0 : decode cX0_letGo 0 = .ok (.aload_n 0, 1) := by decide +kernel
theorem dX0_letGo_1 : decode cX0_letGo 1 = .ok (.getfield 17, 3) := by decide +kernel
theorem dX0_letGo_4 : decode cX0_letGo 4 = .ok (.iload_n 1, 1) := by decide +kernel
theorem dX0_letGo_5 : decode cX0_letGo 5 = .ok (.dup2, 1) := by decide +kernel
theorem dX0_letGo_6 : decode cX0_letGo 6 = .ok (.iaload, 1) := by decide +kernel
theorem dX0_letGo_7 : decode cX0_letGo 7 = .ok (.iconst 1, 1) := by decide +kernel
theorem dX0_letGo_8 : decode cX0_letGo 8 = .ok (.isub, 1) := by decide +kernel
theorem dX0_letGo_9 : decode cX0_letGo 9 = .ok (.iastore, 1) := by decide +kernel
theorem dX0_letGo_10 : decode cX0_letGo 10 = .ok (.aload_n 0, 1) := by decide +kernel
theorem dX0_letGo_11 : decode cX0_letGo 11 = .ok (.getfield 17, 3) := by decide +kernel
theorem dX0_letGo_14 : decode cX0_letGo 14 = .ok (.iload_n 1, 1) := by decide +kernel
theorem dX0_letGo_15 : decode cX0_letGo 15 = .ok (.iaload, 1) := by decide +kernel
theorem dX0_letGo_16 : decode cX0_letGo 16 = .ok (.ifCond .le 4, 3) := by decide +kernel
theorem dX0_letGo_19 : decode cX0_letGo 19 = .ok (.return_, 1) := by decide +kernel
theorem dX0_letGo_20 : decode cX0_letGo 20 = .ok (.aload_n 0, 1) := by decide +kernel
theorem dX0_letGo_21 : decode cX0_letGo 21 = .ok (.getfield 20, 3) := by decide +kernel
theorem dX0_letGo_24 : decode cX0_letGo 24 = .ok (.iload_n 1, 1) := by decide +kernel
theorem dX0_letGo_25 : decode cX0_letGo 25 = .ok (.iaload, 1) := by decide +kernel
theorem dX0_letGo_26 : decode cX0_letGo 26 = .ok (.iconst 1, 1) := by decide +kernel
theorem dX0_letGo_27 : decode cX0_letGo 27 = .ok (.if_icmp .ne 21, 3) := by decide +kernel
theorem dX0_letGo_30 : decode cX0_letGo 30 = .ok (.aload_n 0, 1) := by decide +kernel
theorem dX0_letGo_31 : decode cX0_letGo 31 = .ok (.getfield 32, 3) := by decide +kernel
theorem dX0_letGo_34 : decode cX0_letGo 34 = .ok (.aload_n 0, 1) := by decide +kernel
theorem dX0_letGo_35 : decode cX0_letGo 35 = .ok (.getfield 23, 3) := by decide +kernel
theorem dX0_letGo_38 : decode cX0_letGo 38 = .ok (.iload_n 1, 1) := by decide +kernel
theorem dX0_letGo_39 : decode cX0_letGo 39 = .ok (.iaload, 1) := by decide +kernel
theorem dX0_letGo_40 : decode cX0_letGo 40 = .ok (.dup2, 1) := by decide +kernel
theorem dX0_letGo_41 : decode cX0_letGo 41 = .ok (.iaload, 1) := by decide +kernel
theorem dX0_letGo_42 : decode cX0_letGo 42 = .ok (.iconst 1, 1) := by decide +kernel
theorem dX0_letGo_43 : decode cX0_letGo 43 = .ok (.isub, 1) := by decide +kernel
theorem dX0_letGo_44 : decode cX0_letGo 44 = .ok (.iastore, 1) := by decide +kernel
theorem dX0_letGo_45 : decode cX0_letGo 45 = .ok (.goto 40, 3) := by decide +kernel
theorem dX0_letGo_48 : decode cX0_letGo 48 = .ok (.aload_n 0, 1) := by decide +kernel
theorem dX0_letGo_49 : decode cX0_letGo 49 = .ok (.getfield 20, 3) := by decide +kernel
theorem dX0_letGo_52 : decode cX0_letGo 52 = .ok (.iload_n 1, 1) := by decide +kernel
theorem dX0_letGo_53 : decode cX0_letGo 53 = .ok (.iaload, 1) := by decide +kernel
theorem dX0_letGo_54 : decode cX0_letGo 54 = .ok (.iconst 2, 1) := by decide +kernel
theorem dX0_letGo_55 : decode cX0_letGo 55 = .ok (.if_icmp .ne 18, 3) := by decide +kernel
theorem dX0_letGo_58 : decode cX0_letGo 58 = .ok (.aload_n 0, 1) := by decide +kernel
theorem dX0_letGo_59 : decode cX0_letGo 59 = .ok (.getfield 41, 3) := by decide +kernel
theorem dX0_letGo_62 : decode cX0_letGo 62 = .ok (.aload_n 0, 1) := by decide +kernel
theorem dX0_letGo_63 : decode cX0_letGo 63 = .ok (.getfield 23, 3) := by decide +kernel
theorem dX0_letGo_66 : decode cX0_letGo 66 = .ok (.iload_n 1, 1) := by decide +kernel
theorem dX0_letGo_67 : decode cX0_letGo 67 = .ok (.iaload, 1) := by decide +kernel
theorem dX0_letGo_68 : decode cX0_letGo 68 = .ok (.iconst 0, 1) := by decide +kernel
theorem dX0_letGo_69 : decode cX0_letGo 69 = .ok (.bastore, 1) := by decide +kernel
theorem dX0_letGo_70 : decode cX0_letGo 70 = .ok (.goto 15, 3) := by decide +kernel
theorem dX0_letGo_73 : decode cX0_letGo 73 = .ok (.aload_n 0, 1) := by decide +kernel
theorem dX0_letGo_74 : decode cX0_letGo 74 = .ok (.getfield 44, 3) := by decide +kernel
theorem dX0_letGo_77 : decode cX0_letGo 77 = .ok (.aload_n 0, 1) := by decide +kernel
theorem dX0_letGo_78 : decode cX0_letGo 78 = .ok (.getfield 23, 3) := by decide +kernel
theorem dX0_letGo_81 : decode cX0_letGo 81 = .ok (.iload_n 1, 1) := by decide +kernel
theorem dX0_letGo_82 : decode cX0_letGo 82 = .ok (.iaload, 1) := by decide +kernel
theorem dX0_letGo_83 : decode cX0_letGo 83 = .ok (.iconst 0, 1) := by decide +kernel
theorem dX0_letGo_84 : decode cX0_letGo 84 = .ok (.bastore, 1) := by decide +kernel
theorem dX0_letGo_85 : decode cX0_letGo 85 = .ok (.return_, 1) := by decide +kernel
abbrev cX0_fork : ByteArray := prog_1_method_6_code
def yX0_fork : MethodName := ⟨RX0, "fork", "(I)I"⟩
theorem dX0_fork_0 : decode cX0_fork 0 = .ok (.aload_n 0, 1) := by decide +kernel
theorem dX0_fork_1 : decode cX0_fork 1 = .ok (.iload_n 1, 1) := by decide +kernel
theorem dX0_fork_2 : decode cX0_fork 2 = .ok (.invokevirtual 60, 3) := by decide +kernel
theorem dX0_fork_5 : decode cX0_fork 5 = .ok (.ifCond .ne 5, 3) := by decide +kernel
theorem dX0_fork_8 : decode cX0_fork 8 = .ok (.iconst (-1), 1) := by decide +kernel
theorem dX0_fork_9 : decode cX0_fork 9 = .ok (.ireturn, 1) := by decide +kernel
theorem dX0_fork_10 : decode cX0_fork 10 = .ok (.aload_n 0, 1) := by decide +kernel
theorem dX0_fork_11 : decode cX0_fork 11 = .ok (.getfield 56, 3) := by decide +kernel
theorem dX0_fork_14 : decode cX0_fork 14 = .ok (.iconst 4, 1) := by decide +kernel
theorem dX0_fork_15 : decode cX0_fork 15 = .ok (.if_icmp .ne 6, 3) := by decide +kernel
theorem dX0_fork_18 : decode cX0_fork 18 = .ok (.bipush (-2), 2) := by decide +kernel
theorem dX0_fork_20 : decode cX0_fork 20 = .ok (.ireturn, 1) := by decide +kernel
theorem dX0_fork_21 : decode cX0_fork 21 = .ok (.iconst 0, 1) := by decide +kernel
theorem dX0_fork_22 : decode cX0_fork 22 = .ok (.istore_n 2, 1) := by decide +kernel
theorem dX0_fork_23 : decode cX0_fork 23 = .ok (.iconst 3, 1) := by decide +kernel
theorem dX0_fork_24 : decode cX0_fork 24 = .ok (.istore_n 3, 1) := by decide +kernel
theorem dX0_fork_25 : decode cX0_fork 25 = .ok (.iload_n 3, 1) := by decide +kernel
theorem dX0_fork_26 : decode cX0_fork 26 = .ok (.ifCond .lt 24, 3) := by decide +kernel
theorem dX0_fork_29 : decode cX0_fork 29 = .ok (.aload_n 0, 1) := by decide +kernel
theorem dX0_fork_30 : decode cX0_fork 30 = .ok (.getfield 7, 3) := by decide +kernel
theorem dX0_fork_33 : decode cX0_fork 33 = .ok (.iload_n 3, 1) := by decide +kernel
theorem dX0_fork_34 : decode cX0_fork 34 = .ok (.baload, 1) := by decide +kernel
theorem dX0_fork_35 : decode cX0_fork 35 = .ok (.ifCond .eq 7, 3) := by decide +kernel
theorem dX0_fork_38 : decode cX0_fork 38 = .ok (.iload_n 2, 1) := by decide +kernel
theorem dX0_fork_39 : decode cX0_fork 39 = .ok (.goto 4, 3) := by decide +kernel
theorem dX0_fork_42 : decode cX0_fork 42 = .ok (.iload_n 3, 1) := by decide +kernel
theorem dX0_fork_43 : decode cX0_fork 43 = .ok (.istore_n 2, 1) := by decide +kernel
theorem dX0_fork_44 : decode cX0_fork 44 = .ok (.iinc 3 (-1), 3) := by decide +kernel
theorem dX0_fork_47 : decode cX0_fork 47 = .ok (.goto (-22), 3) := by decide +kernel
theorem dX0_fork_50 : decode cX0_fork 50 = .ok (.aload_n 0, 1) := by decide +kernel
theorem dX0_fork_51 : decode cX0_fork 51 = .ok (.getfield 7, 3) := by decide +kernel
theorem dX0_fork_54 : decode cX0_fork 54 = .ok (.iload_n 2, 1) := by decide +kernel
theorem dX0_fork_55 : decode cX0_fork 55 = .ok (.iconst 1, 1) := by decide +kernel
theorem dX0_fork_56 : decode cX0_fork 56 = .ok (.bastore, 1) := by decide +kernel
theorem dX0_fork_57 : decode cX0_fork 57 = .ok (.aload_n 0, 1) := by decide +kernel
theorem dX0_fork_58 : decode cX0_fork 58 = .ok (.dup, 1) := by decide +kernel
theorem dX0_fork_59 : decode cX0_fork 59 = .ok (.getfield 56, 3) := by decide +kernel
theorem dX0_fork_62 : decode cX0_fork 62 = .ok (.iconst 1, 1) := by decide +kernel
theorem dX0_fork_63 : decode cX0_fork 63 = .ok (.iadd, 1) := by decide +kernel
theorem dX0_fork_64 : decode cX0_fork 64 = .ok (.putfield 56, 3) := by decide +kernel
theorem dX0_fork_67 : decode cX0_fork 67 = .ok (.iconst 0, 1) := by decide +kernel
theorem dX0_fork_68 : decode cX0_fork 68 = .ok (.istore_n 3, 1) := by decide +kernel
theorem dX0_fork_69 : decode cX0_fork 69 = .ok (.iload_n 3, 1) := by decide +kernel
theorem dX0_fork_70 : decode cX0_fork 70 = .ok (.bipush 6, 2) := by decide +kernel
theorem dX0_fork_72 : decode cX0_fork 72 = .ok (.if_icmp .ge 51, 3) := by decide +kernel
theorem dX0_fork_75 : decode cX0_fork 75 = .ok (.aload_n 0, 1) := by decide +kernel
theorem dX0_fork_76 : decode cX0_fork 76 = .ok (.getfield 13, 3) := by decide +kernel
theorem dX0_fork_79 : decode cX0_fork 79 = .ok (.bipush 6, 2) := by decide +kernel
theorem dX0_fork_81 : decode cX0_fork 81 = .ok (.iload_n 1, 1) := by decide +kernel
theorem dX0_fork_82 : decode cX0_fork 82 = .ok (.imul, 1) := by decide +kernel
theorem dX0_fork_83 : decode cX0_fork 83 = .ok (.iload_n 3, 1) := by decide +kernel
theorem dX0_fork_84 : decode cX0_fork 84 = .ok (.iadd, 1) := by decide +kernel
theorem dX0_fork_85 : decode cX0_fork 85 = .ok (.iaload, 1) := by decide +kernel
theorem dX0_fork_86 : decode cX0_fork 86 = .ok (.istore 4, 2) := by decide +kernel
theorem dX0_fork_88 : decode cX0_fork 88 = .ok (.aload_n 0, 1) := by decide +kernel
theorem dX0_fork_89 : decode cX0_fork 89 = .ok (.getfield 13, 3) := by decide +kernel
theorem dX0_fork_92 : decode cX0_fork 92 = .ok (.bipush 6, 2) := by decide +kernel
theorem dX0_fork_94 : decode cX0_fork 94 = .ok (.iload_n 2, 1) := by decide +kernel
theorem dX0_fork_95 : decode cX0_fork 95 = .ok (.imul, 1) := by decide +kernel
theorem dX0_fork_96 : decode cX0_fork 96 = .ok (.iload_n 3, 1) := by decide +kernel
theorem dX0_fork_97 : decode cX0_fork 97 = .ok (.iadd, 1) := by decide +kernel
theorem dX0_fork_98 : decode cX0_fork 98 = .ok (.iload 4, 2) := by decide +kernel
theorem dX0_fork_100 : decode cX0_fork 100 = .ok (.iastore, 1) := by decide +kernel
theorem dX0_fork_101 : decode cX0_fork 101 = .ok (.iload 4, 2) := by decide +kernel
theorem dX0_fork_103 : decode cX0_fork 103 = .ok (.ifCond .lt 14, 3) := by decide +kernel
theorem dX0_fork_106 : decode cX0_fork 106 = .ok (.aload_n 0, 1) := by decide +kernel
theorem dX0_fork_107 : decode cX0_fork 107 = .ok (.getfield 17, 3) := by decide +kernel
theorem dX0_fork_110 : decode cX0_fork 110 = .ok (.iload 4, 2) := by decide +kernel
theorem dX0_fork_112 : decode cX0_fork 112 = .ok (.dup2, 1) := by decide +kernel
theorem dX0_fork_113 : decode cX0_fork 113 = .ok (.iaload, 1) := by decide +kernel
theorem dX0_fork_114 : decode cX0_fork 114 = .ok (.iconst 1, 1) := by decide +kernel
theorem dX0_fork_115 : decode cX0_fork 115 = .ok (.iadd, 1) := by decide +kernel
theorem dX0_fork_116 : decode cX0_fork 116 = .ok (.iastore, 1) := by decide +kernel
theorem dX0_fork_117 : decode cX0_fork 117 = .ok (.iinc 3 1, 3) := by decide +kernel
theorem dX0_fork_120 : decode cX0_fork 120 = .ok (.goto (-51), 3) := by decide +kernel
theorem dX0_fork_123 : decode cX0_fork 123 = .ok (.iload_n 2, 1) := by decide +kernel
theorem dX0_fork_124 : decode cX0_fork 124 = .ok (.ireturn, 1) := by decide +kernel
abbrev cX0_exit : ByteArray := prog_1_method_7_code
def yX0_exit : MethodName := ⟨RX0, "exit", "(I)I"⟩
theorem dX0_exit_0 : decode cX0_exit 0 = .ok (.aload_n 0, 1) := by decide +kernel
theorem dX0_exit_1 : decode cX0_exit 1 = .ok (.iload_n 1, 1) := by decide +kernel
theorem dX0_exit_2 : decode cX0_exit 2 = .ok (.invokevirtual 60, 3) := by decide +kernel
theorem dX0_exit_5 : decode cX0_exit 5 = .ok (.ifCond .eq 11, 3) := by decide +kernel
theorem dX0_exit_8 : decode cX0_exit 8 = .ok (.aload_n 0, 1) := by decide +kernel
theorem dX0_exit_9 : decode cX0_exit 9 = .ok (.getfield 56, 3) := by decide +kernel
theorem dX0_exit_12 : decode cX0_exit 12 = .ok (.iconst 1, 1) := by decide +kernel
theorem dX0_exit_13 : decode cX0_exit 13 = .ok (.if_icmp .ne 5, 3) := by decide +kernel
theorem dX0_exit_16 : decode cX0_exit 16 = .ok (.iconst (-1), 1) := by decide +kernel
theorem dX0_exit_17 : decode cX0_exit 17 = .ok (.ireturn, 1) := by decide +kernel
theorem dX0_exit_18 : decode cX0_exit 18 = .ok (.iconst 0, 1) := by decide +kernel
theorem dX0_exit_19 : decode cX0_exit 19 = .ok (.istore_n 2, 1) := by decide +kernel
theorem dX0_exit_20 : decode cX0_exit 20 = .ok (.iload_n 2, 1) := by decide +kernel
theorem dX0_exit_21 : decode cX0_exit 21 = .ok (.bipush 6, 2) := by decide +kernel
theorem dX0_exit_23 : decode cX0_exit 23 = .ok (.if_icmp .ge 42, 3) := by decide +kernel
theorem dX0_exit_26 : decode cX0_exit 26 = .ok (.aload_n 0, 1) := by decide +kernel
theorem dX0_exit_27 : decode cX0_exit 27 = .ok (.getfield 13, 3) := by decide +kernel
theorem dX0_exit_30 : decode cX0_exit 30 = .ok (.bipush 6, 2) := by decide +kernel
theorem dX0_exit_32 : decode cX0_exit 32 = .ok (.iload_n 1, 1) := by decide +kernel
theorem dX0_exit_33 : decode cX0_exit 33 = .ok (.imul, 1) := by decide +kernel
theorem dX0_exit_34 : decode cX0_exit 34 = .ok (.iload_n 2, 1) := by decide +kernel
theorem dX0_exit_35 : decode cX0_exit 35 = .ok (.iadd, 1) := by decide +kernel
theorem dX0_exit_36 : decode cX0_exit 36 = .ok (.iaload, 1) := by decide +kernel
theorem dX0_exit_37 : decode cX0_exit 37 = .ok (.istore_n 3, 1) := by decide +kernel
theorem dX0_exit_38 : decode cX0_exit 38 = .ok (.iload_n 3, 1) := by decide +kernel
theorem dX0_exit_39 : decode cX0_exit 39 = .ok (.ifCond .lt 20, 3) := by decide +kernel
theorem dX0_exit_42 : decode cX0_exit 42 = .ok (.aload_n 0, 1) := by decide +kernel
theorem dX0_exit_43 : decode cX0_exit 43 = .ok (.getfield 13, 3) := by decide +kernel
theorem dX0_exit_46 : decode cX0_exit 46 = .ok (.bipush 6, 2) := by decide +kernel
theorem dX0_exit_48 : decode cX0_exit 48 = .ok (.iload_n 1, 1) := by decide +kernel
theorem dX0_exit_49 : decode cX0_exit 49 = .ok (.imul, 1) := by decide +kernel
theorem dX0_exit_50 : decode cX0_exit 50 = .ok (.iload_n 2, 1) := by decide +kernel
theorem dX0_exit_51 : decode cX0_exit 51 = .ok (.iadd, 1) := by decide +kernel
theorem dX0_exit_52 : decode cX0_exit 52 = .ok (.iconst (-1), 1) := by decide +kernel
theorem dX0_exit_53 : decode cX0_exit 53 = .ok (.iastore, 1) := by decide +kernel
theorem dX0_exit_54 : decode cX0_exit 54 = .ok (.aload_n 0, 1) := by decide +kernel
theorem dX0_exit_55 : decode cX0_exit 55 = .ok (.iload_n 3, 1) := by decide +kernel
theorem dX0_exit_56 : decode cX0_exit 56 = .ok (.invokevirtual 84, 3) := by decide +kernel
theorem dX0_exit_59 : decode cX0_exit 59 = .ok (.iinc 2 1, 3) := by decide +kernel
theorem dX0_exit_62 : decode cX0_exit 62 = .ok (.goto (-42), 3) := by decide +kernel
theorem dX0_exit_65 : decode cX0_exit 65 = .ok (.aload_n 0, 1) := by decide +kernel
theorem dX0_exit_66 : decode cX0_exit 66 = .ok (.getfield 7, 3) := by decide +kernel
theorem dX0_exit_69 : decode cX0_exit 69 = .ok (.iload_n 1, 1) := by decide +kernel
theorem dX0_exit_70 : decode cX0_exit 70 = .ok (.iconst 0, 1) := by decide +kernel
theorem dX0_exit_71 : decode cX0_exit 71 = .ok (.bastore, 1) := by decide +kernel
theorem dX0_exit_72 : decode cX0_exit 72 = .ok (.aload_n 0, 1) := by decide +kernel
theorem dX0_exit_73 : decode cX0_exit 73 = .ok (.dup, 1) := by decide +kernel
theorem dX0_exit_74 : decode cX0_exit 74 = .ok (.getfield 56, 3) := by decide +kernel
theorem dX0_exit_77 : decode cX0_exit 77 = .ok (.iconst 1, 1) := by decide +kernel
theorem dX0_exit_78 : decode cX0_exit 78 = .ok (.isub, 1) := by decide +kernel
theorem dX0_exit_79 : decode cX0_exit 79 = .ok (.putfield 56, 3) := by decide +kernel
theorem dX0_exit_82 : decode cX0_exit 82 = .ok (.iconst 0, 1) := by decide +kernel
theorem dX0_exit_83 : decode cX0_exit 83 = .ok (.ireturn, 1) := by decide +kernel
abbrev cX0_write : ByteArray := prog_1_method_8_code
def yX0_write : MethodName := ⟨RX0, "write", "(III)I"⟩
theorem dX0_write_0 : decode cX0_write 0 = .ok (.aload_n 0, 1) := by decide +kernel
theorem dX0_write_1 : decode cX0_write 1 = .ok (.iload_n 1, 1) := by decide +kernel
theorem dX0_write_2 : decode cX0_write 2 = .ok (.iload_n 2, 1) := by decide +kernel
theorem dX0_write_3 : decode cX0_write 3 = .ok (.invokevirtual 81, 3) := by decide +kernel
theorem dX0_write_6 : decode cX0_write 6 = .ok (.istore 4, 2) := by decide +kernel
theorem dX0_write_8 : decode cX0_write 8 = .ok (.iload 4, 2) := by decide +kernel
theorem dX0_write_10 : decode cX0_write 10 = .ok (.ifCond .lt 14, 3) := by decide +kernel
theorem dX0_write_13 : decode cX0_write 13 = .ok (.aload_n 0, 1) := by decide +kernel
theorem dX0_write_14 : decode cX0_write 14 = .ok (.getfield 20, 3) := by decide +kernel
theorem dX0_write_17 : decode cX0_write 17 = .ok (.iload 4, 2) := by decide +kernel
theorem dX0_write_19 : decode cX0_write 19 = .ok (.iaload, 1) := by decide +kernel
theorem dX0_write_20 : decode cX0_write 20 = .ok (.iconst 2, 1) := by decide +kernel
theorem dX0_write_21 : decode cX0_write 21 = .ok (.if_icmp .ne 5, 3) := by decide +kernel
theorem dX0_write_24 : decode cX0_write 24 = .ok (.iconst (-1), 1) := by decide +kernel
theorem dX0_write_25 : decode cX0_write 25 = .ok (.ireturn, 1) := by decide +kernel
theorem dX0_write_26 : decode cX0_write 26 = .ok (.aload_n 0, 1) := by decide +kernel
theorem dX0_write_27 : decode cX0_write 27 = .ok (.getfield 20, 3) := by decide +kernel
theorem dX0_write_30 : decode cX0_write 30 = .ok (.iload 4, 2) := by decide +kernel
theorem dX0_write_32 : decode cX0_write 32 = .ok (.iaload, 1) := by decide +kernel
theorem dX0_write_33 : decode cX0_write 33 = .ok (.iconst 1, 1) := by decide +kernel
theorem dX0_write_34 : decode cX0_write 34 = .ok (.if_icmp .ne 17, 3) := by decide +kernel
theorem dX0_write_37 : decode cX0_write 37 = .ok (.aload_n 0, 1) := by decide +kernel
theorem dX0_write_38 : decode cX0_write 38 = .ok (.iload 4, 2) := by decide +kernel
theorem dX0_write_40 : decode cX0_write 40 = .ok (.iload_n 3, 1) := by decide +kernel
theorem dX0_write_41 : decode cX0_write 41 = .ok (.sipush 255, 3) := by decide +kernel
theorem dX0_write_44 : decode cX0_write 44 = .ok (.iand, 1) := by decide +kernel
theorem dX0_write_45 : decode cX0_write 45 = .ok (.invokevirtual 88, 3) := by decide +kernel
theorem dX0_write_48 : decode cX0_write 48 = .ok (.goto 19, 3) := by decide +kernel
theorem dX0_write_51 : decode cX0_write 51 = .ok (.aload_n 0, 1) := by decide +kernel
theorem dX0_write_52 : decode cX0_write 52 = .ok (.aload_n 0, 1) := by decide +kernel
theorem dX0_write_53 : decode cX0_write 53 = .ok (.getfield 23, 3) := by decide +kernel
theorem dX0_write_56 : decode cX0_write 56 = .ok (.iload 4, 2) := by decide +kernel
theorem dX0_write_58 : decode cX0_write 58 = .ok (.iaload, 1) := by decide +kernel
theorem dX0_write_59 : decode cX0_write 59 = .ok (.iload_n 3, 1) := by decide +kernel
theorem dX0_write_60 : decode cX0_write 60 = .ok (.sipush 255, 3) := by decide +kernel
theorem dX0_write_63 : decode cX0_write 63 = .ok (.iand, 1) := by decide +kernel
theorem dX0_write_64 : decode cX0_write 64 = .ok (.invokevirtual 91, 3) := by decide +kernel
theorem dX0_write_67 : decode cX0_write 67 = .ok (.ireturn, 1) := by decide +kernel
abbrev cX0_writeFile : ByteArray := prog_1_method_11_code
def yX0_writeFile : MethodName := ⟨RX0, "writeFile", "(II)I"⟩
theorem dX0_writeFile_0 : decode cX0_writeFile 0 = .ok (.aload_n 0, 1) := by decide +kernel
theorem dX0_writeFile_1 : decode cX0_writeFile 1 = .ok (.getfield 23, 3) := by decide +kernel
theorem dX0_writeFile_4 : decode cX0_writeFile 4 = .ok (.iload_n 1, 1) := by decide +kernel
theorem dX0_writeFile_5 : decode cX0_writeFile 5 = .ok (.iaload, 1) := by decide +kernel
theorem dX0_writeFile_6 : decode cX0_writeFile 6 = .ok (.istore_n 3, 1) := by decide +kernel
theorem dX0_writeFile_7 : decode cX0_writeFile 7 = .ok (.aload_n 0, 1) := by decide +kernel
theorem dX0_writeFile_8 : decode cX0_writeFile 8 = .ok (.getfield 26, 3) := by decide +kernel
theorem dX0_writeFile_11 : decode cX0_writeFile 11 = .ok (.iload_n 1, 1) := by decide +kernel
theorem dX0_writeFile_12 : decode cX0_writeFile 12 = .ok (.iaload, 1) := by decide +kernel
theorem dX0_writeFile_13 : decode cX0_writeFile 13 = .ok (.istore 4, 2) := by decide +kernel
theorem dX0_writeFile_15 : decode cX0_writeFile 15 = .ok (.iload 4, 2) := by decide +kernel
theorem dX0_writeFile_17 : decode cX0_writeFile 17 = .ok (.bipush 8, 2) := by decide +kernel
theorem dX0_writeFile_19 : decode cX0_writeFile 19 = .ok (.if_icmp .lt 6, 3) := by decide +kernel
theorem dX0_writeFile_22 : decode cX0_writeFile 22 = .ok (.bipush (-2), 2) := by decide +kernel
theorem dX0_writeFile_24 : decode cX0_writeFile 24 = .ok (.ireturn, 1) := by decide +kernel
theorem dX0_writeFile_25 : decode cX0_writeFile 25 = .ok (.aload_n 0, 1) := by decide +kernel
theorem dX0_writeFile_26 : decode cX0_writeFile 26 = .ok (.getfield 38, 3) := by decide +kernel
theorem dX0_writeFile_29 : decode cX0_writeFile 29 = .ok (.bipush 8, 2) := by decide +kernel
theorem dX0_writeFile_31 : decode cX0_writeFile 31 = .ok (.iload_n 3, 1) := by decide +kernel
theorem dX0_writeFile_32 : decode cX0_writeFile 32 = .ok (.imul, 1) := by decide +kernel
theorem dX0_writeFile_33 : decode cX0_writeFile 33 = .ok (.iload 4, 2) := by decide +kernel
theorem dX0_writeFile_35 : decode cX0_writeFile 35 = .ok (.iadd, 1) := by decide +kernel
theorem dX0_writeFile_36 : decode cX0_writeFile 36 = .ok (.iload_n 2, 1) := by decide +kernel
theorem dX0_writeFile_37 : decode cX0_writeFile 37 = .ok (.iastore, 1) := by decide +kernel
theorem dX0_writeFile_38 : decode cX0_writeFile 38 = .ok (.aload_n 0, 1) := by decide +kernel
theorem dX0_writeFile_39 : decode cX0_writeFile 39 = .ok (.getfield 26, 3) := by decide +kernel
theorem dX0_writeFile_42 : decode cX0_writeFile 42 = .ok (.iload_n 1, 1) := by decide +kernel
theorem dX0_writeFile_43 : decode cX0_writeFile 43 = .ok (.iload 4, 2) := by decide +kernel
theorem dX0_writeFile_45 : decode cX0_writeFile 45 = .ok (.iconst 1, 1) := by decide +kernel
theorem dX0_writeFile_46 : decode cX0_writeFile 46 = .ok (.iadd, 1) := by decide +kernel
theorem dX0_writeFile_47 : decode cX0_writeFile 47 = .ok (.iastore, 1) := by decide +kernel
theorem dX0_writeFile_48 : decode cX0_writeFile 48 = .ok (.iload 4, 2) := by decide +kernel
theorem dX0_writeFile_50 : decode cX0_writeFile 50 = .ok (.aload_n 0, 1) := by decide +kernel
theorem dX0_writeFile_51 : decode cX0_writeFile 51 = .ok (.getfield 35, 3) := by decide +kernel
theorem dX0_writeFile_54 : decode cX0_writeFile 54 = .ok (.iload_n 3, 1) := by decide +kernel
theorem dX0_writeFile_55 : decode cX0_writeFile 55 = .ok (.iaload, 1) := by decide +kernel
theorem dX0_writeFile_56 : decode cX0_writeFile 56 = .ok (.if_icmp .ne 13, 3) := by decide +kernel
theorem dX0_writeFile_59 : decode cX0_writeFile 59 = .ok (.aload_n 0, 1) := by decide +kernel
theorem dX0_writeFile_60 : decode cX0_writeFile 60 = .ok (.getfield 35, 3) := by decide +kernel
theorem dX0_writeFile_63 : decode cX0_writeFile 63 = .ok (.iload_n 3, 1) := by decide +kernel
theorem dX0_writeFile_64 : decode cX0_writeFile 64 = .ok (.iload 4, 2) := by decide +kernel
theorem dX0_writeFile_66 : decode cX0_writeFile 66 = .ok (.iconst 1, 1) := by decide +kernel
theorem dX0_writeFile_67 : decode cX0_writeFile 67 = .ok (.iadd, 1) := by decide +kernel
theorem dX0_writeFile_68 : decode cX0_writeFile 68 = .ok (.iastore, 1) := by decide +kernel
theorem dX0_writeFile_69 : decode cX0_writeFile 69 = .ok (.iconst 0, 1) := by decide +kernel
theorem dX0_writeFile_70 : decode cX0_writeFile 70 = .ok (.ireturn, 1) := by decide +kernel
abbrev cX0_writePipe : ByteArray := prog_1_method_13_code
def yX0_writePipe : MethodName := ⟨RX0, "writePipe", "(II)I"⟩
theorem dX0_writePipe_0 : decode cX0_writePipe 0 = .ok (.aload_n 0, 1) := by decide +kernel
theorem dX0_writePipe_1 : decode cX0_writePipe 1 = .ok (.getfield 41, 3) := by decide +kernel
theorem dX0_writePipe_4 : decode cX0_writePipe 4 = .ok (.iload_n 1, 1) := by decide +kernel
theorem dX0_writePipe_5 : decode cX0_writePipe 5 = .ok (.baload, 1) := by decide +kernel
theorem dX0_writePipe_6 : decode cX0_writePipe 6 = .ok (.ifCond .ne 6, 3) := by decide +kernel
theorem dX0_writePipe_9 : decode cX0_writePipe 9 = .ok (.bipush (-3), 2) := by decide +kernel
theorem dX0_writePipe_11 : decode cX0_writePipe 11 = .ok (.ireturn, 1) := by decide +kernel
theorem dX0_writePipe_12 : decode cX0_writePipe 12 = .ok (.aload_n 0, 1) := by decide +kernel
theorem dX0_writePipe_13 : decode cX0_writePipe 13 = .ok (.getfield 50, 3) := by decide +kernel
theorem dX0_writePipe_16 : decode cX0_writePipe 16 = .ok (.iload_n 1, 1) := by decide +kernel
theorem dX0_writePipe_17 : decode cX0_writePipe 17 = .ok (.iaload, 1) := by decide +kernel
theorem dX0_writePipe_18 : decode cX0_writePipe 18 = .ok (.bipush 6, 2) := by decide +kernel
theorem dX0_writePipe_20 : decode cX0_writePipe 20 = .ok (.if_icmp .ne 6, 3) := by decide +kernel
theorem dX0_writePipe_23 : decode cX0_writePipe 23 = .ok (.bipush (-4), 2) := by decide +kernel
theorem dX0_writePipe_25 : decode cX0_writePipe 25 = .ok (.ireturn, 1) := by decide +kernel
theorem dX0_writePipe_26 : decode cX0_writePipe 26 = .ok (.aload_n 0, 1) := by decide +kernel
theorem dX0_writePipe_27 : decode cX0_writePipe 27 = .ok (.getfield 47, 3) := by decide +kernel
theorem dX0_writePipe_30 : decode cX0_writePipe 30 = .ok (.iload_n 1, 1) := by decide +kernel
theorem dX0_writePipe_31 : decode cX0_writePipe 31 = .ok (.iaload, 1) := by decide +kernel
theorem dX0_writePipe_32 : decode cX0_writePipe 32 = .ok (.aload_n 0, 1) := by decide +kernel
theorem dX0_writePipe_33 : decode cX0_writePipe 33 = .ok (.getfield 50, 3) := by decide +kernel
theorem dX0_writePipe_36 : decode cX0_writePipe 36 = .ok (.iload_n 1, 1) := by decide +kernel
theorem dX0_writePipe_37 : decode cX0_writePipe 37 = .ok (.iaload, 1) := by decide +kernel
theorem dX0_writePipe_38 : decode cX0_writePipe 38 = .ok (.iadd, 1) := by decide +kernel
theorem dX0_writePipe_39 : decode cX0_writePipe 39 = .ok (.istore_n 3, 1) := by decide +kernel
theorem dX0_writePipe_40 : decode cX0_writePipe 40 = .ok (.aload_n 0, 1) := by decide +kernel
theorem dX0_writePipe_41 : decode cX0_writePipe 41 = .ok (.getfield 53, 3) := by decide +kernel
theorem dX0_writePipe_44 : decode cX0_writePipe 44 = .ok (.bipush 6, 2) := by decide +kernel
theorem dX0_writePipe_46 : decode cX0_writePipe 46 = .ok (.iload_n 1, 1) := by decide +kernel
theorem dX0_writePipe_47 : decode cX0_writePipe 47 = .ok (.imul, 1) := by decide +kernel
theorem dX0_writePipe_48 : decode cX0_writePipe 48 = .ok (.iload_n 3, 1) := by decide +kernel
theorem dX0_writePipe_49 : decode cX0_writePipe 49 = .ok (.bipush 6, 2) := by decide +kernel
theorem dX0_writePipe_51 : decode cX0_writePipe 51 = .ok (.if_icmp .lt 10, 3) := by decide +kernel
theorem dX0_writePipe_54 : decode cX0_writePipe 54 = .ok (.iload_n 3, 1) := by decide +kernel
theorem dX0_writePipe_55 : decode cX0_writePipe 55 = .ok (.bipush 6, 2) := by decide +kernel
theorem dX0_writePipe_57 : decode cX0_writePipe 57 = .ok (.isub, 1) := by decide +kernel
theorem dX0_writePipe_58 : decode cX0_writePipe 58 = .ok (.goto 4, 3) := by decide +kernel
theorem dX0_writePipe_61 : decode cX0_writePipe 61 = .ok (.iload_n 3, 1) := by decide +kernel
theorem dX0_writePipe_62 : decode cX0_writePipe 62 = .ok (.iadd, 1) := by decide +kernel
theorem dX0_writePipe_63 : decode cX0_writePipe 63 = .ok (.iload_n 2, 1) := by decide +kernel
theorem dX0_writePipe_64 : decode cX0_writePipe 64 = .ok (.iastore, 1) := by decide +kernel
theorem dX0_writePipe_65 : decode cX0_writePipe 65 = .ok (.aload_n 0, 1) := by decide +kernel
theorem dX0_writePipe_66 : decode cX0_writePipe 66 = .ok (.getfield 50, 3) := by decide +kernel
theorem dX0_writePipe_69 : decode cX0_writePipe 69 = .ok (.iload_n 1, 1) := by decide +kernel
theorem dX0_writePipe_70 : decode cX0_writePipe 70 = .ok (.dup2, 1) := by decide +kernel
theorem dX0_writePipe_71 : decode cX0_writePipe 71 = .ok (.iaload, 1) := by decide +kernel
theorem dX0_writePipe_72 : decode cX0_writePipe 72 = .ok (.iconst 1, 1) := by decide +kernel
theorem dX0_writePipe_73 : decode cX0_writePipe 73 = .ok (.iadd, 1) := by decide +kernel
theorem dX0_writePipe_74 : decode cX0_writePipe 74 = .ok (.iastore, 1) := by decide +kernel
theorem dX0_writePipe_75 : decode cX0_writePipe 75 = .ok (.iconst 0, 1) := by decide +kernel
theorem dX0_writePipe_76 : decode cX0_writePipe 76 = .ok (.ireturn, 1) := by decide +kernel
abbrev cX0_read : ByteArray := prog_1_method_9_code
def yX0_read : MethodName := ⟨RX0, "read", "(II)I"⟩
theorem dX0_read_0 : decode cX0_read 0 = .ok (.aload_n 0, 1) := by decide +kernel
theorem dX0_read_1 : decode cX0_read 1 = .ok (.iload_n 1, 1) := by decide +kernel
theorem dX0_read_2 : decode cX0_read 2 = .ok (.iload_n 2, 1) := by decide +kernel
theorem dX0_read_3 : decode cX0_read 3 = .ok (.invokevirtual 81, 3) := by decide +kernel
theorem dX0_read_6 : decode cX0_read 6 = .ok (.istore_n 3, 1) := by decide +kernel
theorem dX0_read_7 : decode cX0_read 7 = .ok (.iload_n 3, 1) := by decide +kernel
theorem dX0_read_8 : decode cX0_read 8 = .ok (.ifCond .lt 13, 3) := by decide +kernel
theorem dX0_read_11 : decode cX0_read 11 = .ok (.aload_n 0, 1) := by decide +kernel
theorem dX0_read_12 : decode cX0_read 12 = .ok (.getfield 20, 3) := by decide +kernel
theorem dX0_read_15 : decode cX0_read 15 = .ok (.iload_n 3, 1) := by decide +kernel
theorem dX0_read_16 : decode cX0_read 16 = .ok (.iaload, 1) := by decide +kernel
theorem dX0_read_17 : decode cX0_read 17 = .ok (.iconst 3, 1) := by decide +kernel
theorem dX0_read_18 : decode cX0_read 18 = .ok (.if_icmp .ne 5, 3) := by decide +kernel
theorem dX0_read_21 : decode cX0_read 21 = .ok (.iconst (-1), 1) := by decide +kernel
theorem dX0_read_22 : decode cX0_read 22 = .ok (.ireturn, 1) := by decide +kernel
theorem dX0_read_23 : decode cX0_read 23 = .ok (.aload_n 0, 1) := by decide +kernel
theorem dX0_read_24 : decode cX0_read 24 = .ok (.getfield 20, 3) := by decide +kernel
theorem dX0_read_27 : decode cX0_read 27 = .ok (.iload_n 3, 1) := by decide +kernel
theorem dX0_read_28 : decode cX0_read 28 = .ok (.iaload, 1) := by decide +kernel
theorem dX0_read_29 : decode cX0_read 29 = .ok (.iconst 1, 1) := by decide +kernel
theorem dX0_read_30 : decode cX0_read 30 = .ok (.if_icmp .ne 11, 3) := by decide +kernel
theorem dX0_read_33 : decode cX0_read 33 = .ok (.aload_n 0, 1) := by decide +kernel
theorem dX0_read_34 : decode cX0_read 34 = .ok (.iload_n 3, 1) := by decide +kernel
theorem dX0_read_35 : decode cX0_read 35 = .ok (.invokevirtual 94, 3) := by decide +kernel
theorem dX0_read_38 : decode cX0_read 38 = .ok (.goto 13, 3) := by decide +kernel
theorem dX0_read_41 : decode cX0_read 41 = .ok (.aload_n 0, 1) := by decide +kernel
theorem dX0_read_42 : decode cX0_read 42 = .ok (.aload_n 0, 1) := by decide +kernel
theorem dX0_read_43 : decode cX0_read 43 = .ok (.getfield 23, 3) := by decide +kernel
theorem dX0_read_46 : decode cX0_read 46 = .ok (.iload_n 3, 1) := by decide +kernel
theorem dX0_read_47 : decode cX0_read 47 = .ok (.iaload, 1) := by decide +kernel
theorem dX0_read_48 : decode cX0_read 48 = .ok (.invokevirtual 98, 3) := by decide +kernel
theorem dX0_read_51 : decode cX0_read 51 = .ok (.ireturn, 1) := by decide +kernel
abbrev cX0_readFile : ByteArray := prog_1_method_12_code
def yX0_readFile : MethodName := ⟨RX0, "readFile", "(I)I"⟩
theorem dX0_readFile_0 : decode cX0_readFile 0 = .ok (.aload_n 0, 1) := by decide +kernel
theorem dX0_readFile_1 : decode cX0_readFile 1 = .ok (.getfield 23, 3) := by decide +kernel
theorem dX0_readFile_4 : decode cX0_readFile 4 = .ok (.iload_n 1, 1) := by decide +kernel
theorem dX0_readFile_5 : decode cX0_readFile 5 = .ok (.iaload, 1) := by decide +kernel
theorem dX0_readFile_6 : decode cX0_readFile 6 = .ok (.istore_n 2, 1) := by decide +kernel
theorem dX0_readFile_7 : decode cX0_readFile 7 = .ok (.aload_n 0, 1) := by decide +kernel
theorem dX0_readFile_8 : decode cX0_readFile 8 = .ok (.getfield 26, 3) := by decide +kernel
theorem dX0_readFile_11 : decode cX0_readFile 11 = .ok (.iload_n 1, 1) := by decide +kernel
theorem dX0_readFile_12 : decode cX0_readFile 12 = .ok (.iaload, 1) := by decide +kernel
theorem dX0_readFile_13 : decode cX0_readFile 13 = .ok (.istore_n 3, 1) := by decide +kernel
theorem dX0_readFile_14 : decode cX0_readFile 14 = .ok (.iload_n 3, 1) := by decide +kernel
theorem dX0_readFile_15 : decode cX0_readFile 15 = .ok (.aload_n 0, 1) := by decide +kernel
theorem dX0_readFile_16 : decode cX0_readFile 16 = .ok (.getfield 35, 3) := by decide +kernel
theorem dX0_readFile_19 : decode cX0_readFile 19 = .ok (.iload_n 2, 1) := by decide +kernel
theorem dX0_readFile_20 : decode cX0_readFile 20 = .ok (.iaload, 1) := by decide +kernel
theorem dX0_readFile_21 : decode cX0_readFile 21 = .ok (.if_icmp .lt 6, 3) := by decide +kernel
theorem dX0_readFile_24 : decode cX0_readFile 24 = .ok (.bipush (-5), 2) := by decide +kernel
theorem dX0_readFile_26 : decode cX0_readFile 26 = .ok (.ireturn, 1) := by decide +kernel
theorem dX0_readFile_27 : decode cX0_readFile 27 = .ok (.aload_n 0, 1) := by decide +kernel
theorem dX0_readFile_28 : decode cX0_readFile 28 = .ok (.getfield 26, 3) := by decide +kernel
theorem dX0_readFile_31 : decode cX0_readFile 31 = .ok (.iload_n 1, 1) := by decide +kernel
theorem dX0_readFile_32 : decode cX0_readFile 32 = .ok (.iload_n 3, 1) := by decide +kernel
theorem dX0_readFile_33 : decode cX0_readFile 33 = .ok (.iconst 1, 1) := by decide +kernel
theorem dX0_readFile_34 : decode cX0_readFile 34 = .ok (.iadd, 1) := by decide +kernel
theorem dX0_readFile_35 : decode cX0_readFile 35 = .ok (.iastore, 1) := by decide +kernel
theorem dX0_readFile_36 : decode cX0_readFile 36 = .ok (.aload_n 0, 1) := by decide +kernel
theorem dX0_readFile_37 : decode cX0_readFile 37 = .ok (.getfield 38, 3) := by decide +kernel
theorem dX0_readFile_40 : decode cX0_readFile 40 = .ok (.bipush 8, 2) := by decide +kernel
theorem dX0_readFile_42 : decode cX0_readFile 42 = .ok (.iload_n 2, 1) := by decide +kernel
theorem dX0_readFile_43 : decode cX0_readFile 43 = .ok (.imul, 1) := by decide +kernel
theorem dX0_readFile_44 : decode cX0_readFile 44 = .ok (.iload_n 3, 1) := by decide +kernel
theorem dX0_readFile_45 : decode cX0_readFile 45 = .ok (.iadd, 1) := by decide +kernel
theorem dX0_readFile_46 : decode cX0_readFile 46 = .ok (.iaload, 1) := by decide +kernel
theorem dX0_readFile_47 : decode cX0_readFile 47 = .ok (.ireturn, 1) := by decide +kernel
abbrev cX0_readPipe : ByteArray := prog_1_method_14_code
def yX0_readPipe : MethodName := ⟨RX0, "readPipe", "(I)I"⟩
theorem dX0_readPipe_0 : decode cX0_readPipe 0 = .ok (.aload_n 0, 1) := by decide +kernel
theorem dX0_readPipe_1 : decode cX0_readPipe 1 = .ok (.getfield 50, 3) := by decide +kernel
theorem dX0_readPipe_4 : decode cX0_readPipe 4 = .ok (.iload_n 1, 1) := by decide +kernel
theorem dX0_readPipe_5 : decode cX0_readPipe 5 = .ok (.iaload, 1) := by decide +kernel
theorem dX0_readPipe_6 : decode cX0_readPipe 6 = .ok (.ifCond .ne 20, 3) := by decide +kernel
theorem dX0_readPipe_9 : decode cX0_readPipe 9 = .ok (.aload_n 0, 1) := by decide +kernel
theorem dX0_readPipe_10 : decode cX0_readPipe 10 = .ok (.getfield 44, 3) := by decide +kernel
theorem dX0_readPipe_13 : decode cX0_readPipe 13 = .ok (.iload_n 1, 1) := by decide +kernel
theorem dX0_readPipe_14 : decode cX0_readPipe 14 = .ok (.baload, 1) := by decide +kernel
theorem dX0_readPipe_15 : decode cX0_readPipe 15 = .ok (.ifCond .eq 8, 3) := by decide +kernel
theorem dX0_readPipe_18 : decode cX0_readPipe 18 = .ok (.bipush (-4), 2) := by decide +kernel
theorem dX0_readPipe_20 : decode cX0_readPipe 20 = .ok (.goto 5, 3) := by decide +kernel
theorem dX0_readPipe_23 : decode cX0_readPipe 23 = .ok (.bipush (-5), 2) := by decide +kernel
theorem dX0_readPipe_25 : decode cX0_readPipe 25 = .ok (.ireturn, 1) := by decide +kernel
theorem dX0_readPipe_26 : decode cX0_readPipe 26 = .ok (.aload_n 0, 1) := by decide +kernel
theorem dX0_readPipe_27 : decode cX0_readPipe 27 = .ok (.getfield 53, 3) := by decide +kernel
theorem dX0_readPipe_30 : decode cX0_readPipe 30 = .ok (.bipush 6, 2) := by decide +kernel
theorem dX0_readPipe_32 : decode cX0_readPipe 32 = .ok (.iload_n 1, 1) := by decide +kernel
theorem dX0_readPipe_33 : decode cX0_readPipe 33 = .ok (.imul, 1) := by decide +kernel
theorem dX0_readPipe_34 : decode cX0_readPipe 34 = .ok (.aload_n 0, 1) := by decide +kernel
theorem dX0_readPipe_35 : decode cX0_readPipe 35 = .ok (.getfield 47, 3) := by decide +kernel
theorem dX0_readPipe_38 : decode cX0_readPipe 38 = .ok (.iload_n 1, 1) := by decide +kernel
theorem dX0_readPipe_39 : decode cX0_readPipe 39 = .ok (.iaload, 1) := by decide +kernel
theorem dX0_readPipe_40 : decode cX0_readPipe 40 = .ok (.iadd, 1) := by decide +kernel
theorem dX0_readPipe_41 : decode cX0_readPipe 41 = .ok (.iaload, 1) := by decide +kernel
theorem dX0_readPipe_42 : decode cX0_readPipe 42 = .ok (.istore_n 2, 1) := by decide +kernel
theorem dX0_readPipe_43 : decode cX0_readPipe 43 = .ok (.aload_n 0, 1) := by decide +kernel
theorem dX0_readPipe_44 : decode cX0_readPipe 44 = .ok (.getfield 47, 3) := by decide +kernel
theorem dX0_readPipe_47 : decode cX0_readPipe 47 = .ok (.iload_n 1, 1) := by decide +kernel
theorem dX0_readPipe_48 : decode cX0_readPipe 48 = .ok (.aload_n 0, 1) := by decide +kernel
theorem dX0_readPipe_49 : decode cX0_readPipe 49 = .ok (.getfield 47, 3) := by decide +kernel
theorem dX0_readPipe_52 : decode cX0_readPipe 52 = .ok (.iload_n 1, 1) := by decide +kernel
theorem dX0_readPipe_53 : decode cX0_readPipe 53 = .ok (.iaload, 1) := by decide +kernel
theorem dX0_readPipe_54 : decode cX0_readPipe 54 = .ok (.iconst 5, 1) := by decide +kernel
theorem dX0_readPipe_55 : decode cX0_readPipe 55 = .ok (.if_icmp .ne 7, 3) := by decide +kernel
theorem dX0_readPipe_58 : decode cX0_readPipe 58 = .ok (.iconst 0, 1) := by decide +kernel
theorem dX0_readPipe_59 : decode cX0_readPipe 59 = .ok (.goto 11, 3) := by decide +kernel
theorem dX0_readPipe_62 : decode cX0_readPipe 62 = .ok (.aload_n 0, 1) := by decide +kernel
theorem dX0_readPipe_63 : decode cX0_readPipe 63 = .ok (.getfield 47, 3) := by decide +kernel
theorem dX0_readPipe_66 : decode cX0_readPipe 66 = .ok (.iload_n 1, 1) := by decide +kernel
theorem dX0_readPipe_67 : decode cX0_readPipe 67 = .ok (.iaload, 1) := by decide +kernel
theorem dX0_readPipe_68 : decode cX0_readPipe 68 = .ok (.iconst 1, 1) := by decide +kernel
theorem dX0_readPipe_69 : decode cX0_readPipe 69 = .ok (.iadd, 1) := by decide +kernel
theorem dX0_readPipe_70 : decode cX0_readPipe 70 = .ok (.iastore, 1) := by decide +kernel
theorem dX0_readPipe_71 : decode cX0_readPipe 71 = .ok (.aload_n 0, 1) := by decide +kernel
theorem dX0_readPipe_72 : decode cX0_readPipe 72 = .ok (.getfield 50, 3) := by decide +kernel
theorem dX0_readPipe_75 : decode cX0_readPipe 75 = .ok (.iload_n 1, 1) := by decide +kernel
theorem dX0_readPipe_76 : decode cX0_readPipe 76 = .ok (.dup2, 1) := by decide +kernel
theorem dX0_readPipe_77 : decode cX0_readPipe 77 = .ok (.iaload, 1) := by decide +kernel
theorem dX0_readPipe_78 : decode cX0_readPipe 78 = .ok (.iconst 1, 1) := by decide +kernel
theorem dX0_readPipe_79 : decode cX0_readPipe 79 = .ok (.isub, 1) := by decide +kernel
theorem dX0_readPipe_80 : decode cX0_readPipe 80 = .ok (.iastore, 1) := by decide +kernel
theorem dX0_readPipe_81 : decode cX0_readPipe 81 = .ok (.iload_n 2, 1) := by decide +kernel
theorem dX0_readPipe_82 : decode cX0_readPipe 82 = .ok (.ireturn, 1) := by decide +kernel
abbrev cX0_seek : ByteArray := prog_1_method_10_code
def yX0_seek : MethodName := ⟨RX0, "seek", "(III)I"⟩
theorem dX0_seek_0 : decode cX0_seek 0 = .ok (.aload_n 0, 1) := by decide +kernel
theorem dX0_seek_1 : decode cX0_seek 1 = .ok (.iload_n 1, 1) := by decide +kernel
theorem dX0_seek_2 : decode cX0_seek 2 = .ok (.iload_n 2, 1) := by decide +kernel
theorem dX0_seek_3 : decode cX0_seek 3 = .ok (.invokevirtual 81, 3) := by decide +kernel
theorem dX0_seek_6 : decode cX0_seek 6 = .ok (.istore 4, 2) := by decide +kernel
theorem dX0_seek_8 : decode cX0_seek 8 = .ok (.iload 4, 2) := by decide +kernel
theorem dX0_seek_10 : decode cX0_seek 10 = .ok (.ifCond .lt 34, 3) := by decide +kernel
theorem dX0_seek_13 : decode cX0_seek 13 = .ok (.aload_n 0, 1) := by decide +kernel
theorem dX0_seek_14 : decode cX0_seek 14 = .ok (.getfield 20, 3) := by decide +kernel
theorem dX0_seek_17 : decode cX0_seek 17 = .ok (.iload 4, 2) := by decide +kernel
theorem dX0_seek_19 : decode cX0_seek 19 = .ok (.iaload, 1) := by decide +kernel
theorem dX0_seek_20 : decode cX0_seek 20 = .ok (.iconst 1, 1) := by decide +kernel
theorem dX0_seek_21 : decode cX0_seek 21 = .ok (.if_icmp .ne 23, 3) := by decide +kernel
theorem dX0_seek_24 : decode cX0_seek 24 = .ok (.iload_n 3, 1) := by decide +kernel
theorem dX0_seek_25 : decode cX0_seek 25 = .ok (.ifCond .lt 19, 3) := by decide +kernel
theorem dX0_seek_28 : decode cX0_seek 28 = .ok (.iload_n 3, 1) := by decide +kernel
theorem dX0_seek_29 : decode cX0_seek 29 = .ok (.aload_n 0, 1) := by decide +kernel
theorem dX0_seek_30 : decode cX0_seek 30 = .ok (.getfield 35, 3) := by decide +kernel
theorem dX0_seek_33 : decode cX0_seek 33 = .ok (.aload_n 0, 1) := by decide +kernel
theorem dX0_seek_34 : decode cX0_seek 34 = .ok (.getfield 23, 3) := by decide +kernel
theorem dX0_seek_37 : decode cX0_seek 37 = .ok (.iload 4, 2) := by decide +kernel
theorem dX0_seek_39 : decode cX0_seek 39 = .ok (.iaload, 1) := by decide +kernel
theorem dX0_seek_40 : decode cX0_seek 40 = .ok (.iaload, 1) := by decide +kernel
theorem dX0_seek_41 : decode cX0_seek 41 = .ok (.if_icmp .le 5, 3) := by decide +kernel
theorem dX0_seek_44 : decode cX0_seek 44 = .ok (.iconst (-1), 1) := by decide +kernel
theorem dX0_seek_45 : decode cX0_seek 45 = .ok (.ireturn, 1) := by decide +kernel
theorem dX0_seek_46 : decode cX0_seek 46 = .ok (.aload_n 0, 1) := by decide +kernel
theorem dX0_seek_47 : decode cX0_seek 47 = .ok (.getfield 26, 3) := by decide +kernel
theorem dX0_seek_50 : decode cX0_seek 50 = .ok (.iload 4, 2) := by decide +kernel
theorem dX0_seek_52 : decode cX0_seek 52 = .ok (.iload_n 3, 1) := by decide +kernel
theorem dX0_seek_53 : decode cX0_seek 53 = .ok (.iastore, 1) := by decide +kernel
theorem dX0_seek_54 : decode cX0_seek 54 = .ok (.iconst 0, 1) := by decide +kernel
theorem dX0_seek_55 : decode cX0_seek 55 = .ok (.ireturn, 1) := by decide +kernel
abbrev cX0_link : ByteArray := prog_1_method_15_code
def yX0_link : MethodName := ⟨RX0, "link", "(II)I"⟩
theorem dX0_link_0 : decode cX0_link 0 = .ok (.iload_n 1, 1) := by decide +kernel
theorem dX0_link_1 : decode cX0_link 1 = .ok (.invokestatic 64, 3) := by decide +kernel
theorem dX0_link_4 : decode cX0_link 4 = .ok (.ifCond .eq 28, 3) := by decide +kernel
theorem dX0_link_7 : decode cX0_link 7 = .ok (.iload_n 2, 1) := by decide +kernel
theorem dX0_link_8 : decode cX0_link 8 = .ok (.invokestatic 64, 3) := by decide +kernel
theorem dX0_link_11 : decode cX0_link 11 = .ok (.ifCond .eq 21, 3) := by decide +kernel
theorem dX0_link_14 : decode cX0_link 14 = .ok (.aload_n 0, 1) := by decide +kernel
theorem dX0_link_15 : decode cX0_link 15 = .ok (.getfield 29, 3) := by decide +kernel
theorem dX0_link_18 : decode cX0_link 18 = .ok (.iload_n 1, 1) := by decide +kernel
theorem dX0_link_19 : decode cX0_link 19 = .ok (.iaload, 1) := by decide +kernel
theorem dX0_link_20 : decode cX0_link 20 = .ok (.ifCond .lt 12, 3) := by decide +kernel
theorem dX0_link_23 : decode cX0_link 23 = .ok (.aload_n 0, 1) := by decide +kernel
theorem dX0_link_24 : decode cX0_link 24 = .ok (.getfield 29, 3) := by decide +kernel
theorem dX0_link_27 : decode cX0_link 27 = .ok (.iload_n 2, 1) := by decide +kernel
theorem dX0_link_28 : decode cX0_link 28 = .ok (.iaload, 1) := by decide +kernel
theorem dX0_link_29 : decode cX0_link 29 = .ok (.ifCond .lt 5, 3) := by decide +kernel
theorem dX0_link_32 : decode cX0_link 32 = .ok (.iconst (-1), 1) := by decide +kernel
theorem dX0_link_33 : decode cX0_link 33 = .ok (.ireturn, 1) := by decide +kernel
theorem dX0_link_34 : decode cX0_link 34 = .ok (.aload_n 0, 1) := by decide +kernel
theorem dX0_link_35 : decode cX0_link 35 = .ok (.getfield 29, 3) := by decide +kernel
theorem dX0_link_38 : decode cX0_link 38 = .ok (.iload_n 2, 1) := by decide +kernel
theorem dX0_link_39 : decode cX0_link 39 = .ok (.aload_n 0, 1) := by decide +kernel
theorem dX0_link_40 : decode cX0_link 40 = .ok (.getfield 29, 3) := by decide +kernel
theorem dX0_link_43 : decode cX0_link 43 = .ok (.iload_n 1, 1) := by decide +kernel
theorem dX0_link_44 : decode cX0_link 44 = .ok (.iaload, 1) := by decide +kernel
theorem dX0_link_45 : decode cX0_link 45 = .ok (.iastore, 1) := by decide +kernel
theorem dX0_link_46 : decode cX0_link 46 = .ok (.aload_n 0, 1) := by decide +kernel
theorem dX0_link_47 : decode cX0_link 47 = .ok (.getfield 32, 3) := by decide +kernel
theorem dX0_link_50 : decode cX0_link 50 = .ok (.aload_n 0, 1) := by decide +kernel
theorem dX0_link_51 : decode cX0_link 51 = .ok (.getfield 29, 3) := by decide +kernel
theorem dX0_link_54 : decode cX0_link 54 = .ok (.iload_n 2, 1) := by decide +kernel
theorem dX0_link_55 : decode cX0_link 55 = .ok (.iaload, 1) := by decide +kernel
theorem dX0_link_56 : decode cX0_link 56 = .ok (.dup2, 1) := by decide +kernel
theorem dX0_link_57 : decode cX0_link 57 = .ok (.iaload, 1) := by decide +kernel
theorem dX0_link_58 : decode cX0_link 58 = .ok (.iconst 1, 1) := by decide +kernel
theorem dX0_link_59 : decode cX0_link 59 = .ok (.iadd, 1) := by decide +kernel
theorem dX0_link_60 : decode cX0_link 60 = .ok (.iastore, 1) := by decide +kernel
theorem dX0_link_61 : decode cX0_link 61 = .ok (.iconst 0, 1) := by decide +kernel
theorem dX0_link_62 : decode cX0_link 62 = .ok (.ireturn, 1) := by decide +kernel
abbrev cX0_unlink : ByteArray := prog_1_method_16_code
def yX0_unlink : MethodName := ⟨RX0, "unlink", "(I)I"⟩
theorem dX0_unlink_0 : decode cX0_unlink 0 = .ok (.iload_n 1, 1) := by decide +kernel
theorem dX0_unlink_1 : decode cX0_unlink 1 = .ok (.invokestatic 64, 3) := by decide +kernel
theorem dX0_unlink_4 : decode cX0_unlink 4 = .ok (.ifCond .eq 12, 3) := by decide +kernel
theorem dX0_unlink_7 : decode cX0_unlink 7 = .ok (.aload_n 0, 1) := by decide +kernel
theorem dX0_unlink_8 : decode cX0_unlink 8 = .ok (.getfield 29, 3) := by decide +kernel
theorem dX0_unlink_11 : decode cX0_unlink 11 = .ok (.iload_n 1, 1) := by decide +kernel
theorem dX0_unlink_12 : decode cX0_unlink 12 = .ok (.iaload, 1) := by decide +kernel
theorem dX0_unlink_13 : decode cX0_unlink 13 = .ok (.ifCond .ge 5, 3) := by decide +kernel
theorem dX0_unlink_16 : decode cX0_unlink 16 = .ok (.iconst (-1), 1) := by decide +kernel
theorem dX0_unlink_17 : decode cX0_unlink 17 = .ok (.ireturn, 1) := by decide +kernel
theorem dX0_unlink_18 : decode cX0_unlink 18 = .ok (.aload_n 0, 1) := by decide +kernel
theorem dX0_unlink_19 : decode cX0_unlink 19 = .ok (.getfield 32, 3) := by decide +kernel
theorem dX0_unlink_22 : decode cX0_unlink 22 = .ok (.aload_n 0, 1) := by decide +kernel
theorem dX0_unlink_23 : decode cX0_unlink 23 = .ok (.getfield 29, 3) := by decide +kernel
theorem dX0_unlink_26 : decode cX0_unlink 26 = .ok (.iload_n 1, 1) := by decide +kernel
theorem dX0_unlink_27 : decode cX0_unlink 27 = .ok (.iaload, 1) := by decide +kernel
theorem dX0_unlink_28 : decode cX0_unlink 28 = .ok (.dup2, 1) := by decide +kernel
theorem dX0_unlink_29 : decode cX0_unlink 29 = .ok (.iaload, 1) := by decide +kernel
theorem dX0_unlink_30 : decode cX0_unlink 30 = .ok (.iconst 1, 1) := by decide +kernel
theorem dX0_unlink_31 : decode cX0_unlink 31 = .ok (.isub, 1) := by decide +kernel
theorem dX0_unlink_32 : decode cX0_unlink 32 = .ok (.iastore, 1) := by decide +kernel
theorem dX0_unlink_33 : decode cX0_unlink 33 = .ok (.aload_n 0, 1) := by decide +kernel
theorem dX0_unlink_34 : decode cX0_unlink 34 = .ok (.getfield 29, 3) := by decide +kernel
theorem dX0_unlink_37 : decode cX0_unlink 37 = .ok (.iload_n 1, 1) := by decide +kernel
theorem dX0_unlink_38 : decode cX0_unlink 38 = .ok (.iconst (-1), 1) := by decide +kernel
theorem dX0_unlink_39 : decode cX0_unlink 39 = .ok (.iastore, 1) := by decide +kernel
theorem dX0_unlink_40 : decode cX0_unlink 40 = .ok (.iconst 0, 1) := by decide +kernel
theorem dX0_unlink_41 : decode cX0_unlink 41 = .ok (.ireturn, 1) := by decide +kernel
abbrev cX0_counts : ByteArray := prog_1_method_17_code
def yX0_counts : MethodName := ⟨RX0, "counts", "()I"⟩
theorem dX0_counts_0 : decode cX0_counts 0 = .ok (.iconst 0, 1) := by decide +kernel
theorem dX0_counts_1 : decode cX0_counts 1 = .ok (.istore_n 1, 1) := by decide +kernel
theorem dX0_counts_2 : decode cX0_counts 2 = .ok (.iconst 0, 1) := by decide +kernel
theorem dX0_counts_3 : decode cX0_counts 3 = .ok (.istore_n 2, 1) := by decide +kernel
theorem dX0_counts_4 : decode cX0_counts 4 = .ok (.iconst 0, 1) := by decide +kernel
theorem dX0_counts_5 : decode cX0_counts 5 = .ok (.istore_n 3, 1) := by decide +kernel
theorem dX0_counts_6 : decode cX0_counts 6 = .ok (.iconst 0, 1) := by decide +kernel
theorem dX0_counts_7 : decode cX0_counts 7 = .ok (.istore 4, 2) := by decide +kernel
theorem dX0_counts_9 : decode cX0_counts 9 = .ok (.iload 4, 2) := by decide +kernel
theorem dX0_counts_11 : decode cX0_counts 11 = .ok (.bipush 24, 2) := by decide +kernel
theorem dX0_counts_13 : decode cX0_counts 13 = .ok (.if_icmp .ge 27, 3) := by decide +kernel
theorem dX0_counts_16 : decode cX0_counts 16 = .ok (.iload_n 1, 1) := by decide +kernel
theorem dX0_counts_17 : decode cX0_counts 17 = .ok (.aload_n 0, 1) := by decide +kernel
theorem dX0_counts_18 : decode cX0_counts 18 = .ok (.getfield 17, 3) := by decide +kernel
theorem dX0_counts_21 : decode cX0_counts 21 = .ok (.iload 4, 2) := by decide +kernel
theorem dX0_counts_23 : decode cX0_counts 23 = .ok (.iaload, 1) := by decide +kernel
theorem dX0_counts_24 : decode cX0_counts 24 = .ok (.ifCond .le 7, 3) := by decide +kernel
theorem dX0_counts_27 : decode cX0_counts 27 = .ok (.iconst 1, 1) := by decide +kernel
theorem dX0_counts_28 : decode cX0_counts 28 = .ok (.goto 4, 3) := by decide +kernel
theorem dX0_counts_31 : decode cX0_counts 31 = .ok (.iconst 0, 1) := by decide +kernel
theorem dX0_counts_32 : decode cX0_counts 32 = .ok (.iadd, 1) := by decide +kernel
theorem dX0_counts_33 : decode cX0_counts 33 = .ok (.istore_n 1, 1) := by decide +kernel
theorem dX0_counts_34 : decode cX0_counts 34 = .ok (.iinc 4 1, 3) := by decide +kernel
theorem dX0_counts_37 : decode cX0_counts 37 = .ok (.goto (-28), 3) := by decide +kernel
theorem dX0_counts_40 : decode cX0_counts 40 = .ok (.iconst 0, 1) := by decide +kernel
theorem dX0_counts_41 : decode cX0_counts 41 = .ok (.istore 4, 2) := by decide +kernel
theorem dX0_counts_43 : decode cX0_counts 43 = .ok (.iload 4, 2) := by decide +kernel
theorem dX0_counts_45 : decode cX0_counts 45 = .ok (.bipush 28, 2) := by decide +kernel
theorem dX0_counts_47 : decode cX0_counts 47 = .ok (.if_icmp .ge 27, 3) := by decide +kernel
theorem dX0_counts_50 : decode cX0_counts 50 = .ok (.iload_n 2, 1) := by decide +kernel
theorem dX0_counts_51 : decode cX0_counts 51 = .ok (.aload_n 0, 1) := by decide +kernel
theorem dX0_counts_52 : decode cX0_counts 52 = .ok (.getfield 32, 3) := by decide +kernel
theorem dX0_counts_55 : decode cX0_counts 55 = .ok (.iload 4, 2) := by decide +kernel
theorem dX0_counts_57 : decode cX0_counts 57 = .ok (.iaload, 1) := by decide +kernel
theorem dX0_counts_58 : decode cX0_counts 58 = .ok (.ifCond .le 7, 3) := by decide +kernel
theorem dX0_counts_61 : decode cX0_counts 61 = .ok (.iconst 1, 1) := by decide +kernel
theorem dX0_counts_62 : decode cX0_counts 62 = .ok (.goto 4, 3) := by decide +kernel
theorem dX0_counts_65 : decode cX0_counts 65 = .ok (.iconst 0, 1) := by decide +kernel
theorem dX0_counts_66 : decode cX0_counts 66 = .ok (.iadd, 1) := by decide +kernel
theorem dX0_counts_67 : decode cX0_counts 67 = .ok (.istore_n 2, 1) := by decide +kernel
theorem dX0_counts_68 : decode cX0_counts 68 = .ok (.iinc 4 1, 3) := by decide +kernel
theorem dX0_counts_71 : decode cX0_counts 71 = .ok (.goto (-28), 3) := by decide +kernel
theorem dX0_counts_74 : decode cX0_counts 74 = .ok (.iconst 0, 1) := by decide +kernel
theorem dX0_counts_75 : decode cX0_counts 75 = .ok (.istore 4, 2) := by decide +kernel
theorem dX0_counts_77 : decode cX0_counts 77 = .ok (.iload 4, 2) := by decide +kernel
theorem dX0_counts_79 : decode cX0_counts 79 = .ok (.bipush 24, 2) := by decide +kernel
theorem dX0_counts_81 : decode cX0_counts 81 = .ok (.if_icmp .ge 37, 3) := by decide +kernel
theorem dX0_counts_84 : decode cX0_counts 84 = .ok (.iload_n 3, 1) := by decide +kernel
theorem dX0_counts_85 : decode cX0_counts 85 = .ok (.aload_n 0, 1) := by decide +kernel
theorem dX0_counts_86 : decode cX0_counts 86 = .ok (.getfield 41, 3) := by decide +kernel
theorem dX0_counts_89 : decode cX0_counts 89 = .ok (.iload 4, 2) := by decide +kernel
theorem dX0_counts_91 : decode cX0_counts 91 = .ok (.baload, 1) := by decide +kernel
theorem dX0_counts_92 : decode cX0_counts 92 = .ok (.ifCond .ne 13, 3) := by decide +kernel
theorem dX0_counts_95 : decode cX0_counts 95 = .ok (.aload_n 0, 1) := by decide +kernel
theorem dX0_counts_96 : decode cX0_counts 96 = .ok (.getfield 44, 3) := by decide +kernel
theorem dX0_counts_99 : decode cX0_counts 99 = .ok (.iload 4, 2) := by decide +kernel
theorem dX0_counts_101 : decode cX0_counts 101 = .ok (.baload, 1) := by decide +kernel
theorem dX0_counts_102 : decode cX0_counts 102 = .ok (.ifCond .eq 7, 3) := by decide +kernel
theorem dX0_counts_105 : decode cX0_counts 105 = .ok (.iconst 1, 1) := by decide +kernel
theorem dX0_counts_106 : decode cX0_counts 106 = .ok (.goto 4, 3) := by decide +kernel
theorem dX0_counts_109 : decode cX0_counts 109 = .ok (.iconst 0, 1) := by decide +kernel
theorem dX0_counts_110 : decode cX0_counts 110 = .ok (.iadd, 1) := by decide +kernel
theorem dX0_counts_111 : decode cX0_counts 111 = .ok (.istore_n 3, 1) := by decide +kernel
theorem dX0_counts_112 : decode cX0_counts 112 = .ok (.iinc 4 1, 3) := by decide +kernel
theorem dX0_counts_115 : decode cX0_counts 115 = .ok (.goto (-38), 3) := by decide +kernel
theorem dX0_counts_118 : decode cX0_counts 118 = .ok (.bipush 100, 2) := by decide +kernel
theorem dX0_counts_120 : decode cX0_counts 120 = .ok (.iload_n 1, 1) := by decide +kernel
theorem dX0_counts_121 : decode cX0_counts 121 = .ok (.imul, 1) := by decide +kernel
theorem dX0_counts_122 : decode cX0_counts 122 = .ok (.bipush 10, 2) := by decide +kernel
theorem dX0_counts_124 : decode cX0_counts 124 = .ok (.iload_n 2, 1) := by decide +kernel
theorem dX0_counts_125 : decode cX0_counts 125 = .ok (.imul, 1) := by decide +kernel
theorem dX0_counts_126 : decode cX0_counts 126 = .ok (.iadd, 1) := by decide +kernel
theorem dX0_counts_127 : decode cX0_counts 127 = .ok (.iload_n 3, 1) := by decide +kernel
theorem dX0_counts_128 : decode cX0_counts 128 = .ok (.iadd, 1) := by decide +kernel
theorem dX0_counts_129 : decode cX0_counts 129 = .ok (.ireturn, 1) := by decide +kernel
theorem q21 : (Jvm.Cond.initialized "DescriptorTable") ∈ lw_all := lw_g (lw_at lw_m1 1 rfl) rfl
theorem q24 : (Jvm.Cond.instantiable "DescriptorTable" (16 : Nat)) ∈ lw_all := lw_g (lw_at lw_m1 4 rfl) rfl
theorem q26 : (Jvm.Cond.instanceMethod ({ cls := "DescriptorTable", name := "<init>", desc := "()V" } : Jvm.MethodName)) ∈ lw_all := lw_g (lw_at lw_m1 6 rfl) rfl
theorem q27 : (Jvm.Cond.code ({ cls := "DescriptorTable", name := "<init>", desc := "()V" } : Jvm.MethodName) prog_1_method_1_code (2 : Nat) (Option.none : Option Jvm.ClassFile.FieldType)) ∈ lw_all := lw_g (lw_at lw_m1 7 rfl) rfl
theorem q28 : (Jvm.Cond.methodLink "DescriptorTable" (1 : Nat) ({ cls := "java/lang/Object", name := "<init>", desc := "()V" } : Jvm.MethodName)) ∈ lw_all := lw_g (lw_at lw_m1 8 rfl) rfl
theorem q31 : (Jvm.Cond.fieldLink "DescriptorTable" (56 : Nat) "DescriptorTable" "living" "I") ∈ lw_all := lw_g (lw_at lw_m1 11 rfl) rfl
theorem q32 : (Jvm.Cond.fieldLink "DescriptorTable" (7 : Nat) "DescriptorTable" "alive" "[Z") ∈ lw_all := lw_g (lw_at lw_m1 12 rfl) rfl
theorem q33 : (Jvm.Cond.fieldLink "DescriptorTable" (13 : Nat) "DescriptorTable" "opening" "[I") ∈ lw_all := lw_g (lw_at lw_m1 13 rfl) rfl
theorem q34 : (Jvm.Cond.fieldLink "DescriptorTable" (17 : Nat) "DescriptorTable" "openUsers" "[I") ∈ lw_all := lw_g (lw_at lw_m1 14 rfl) rfl
theorem q35 : (Jvm.Cond.fieldLink "DescriptorTable" (20 : Nat) "DescriptorTable" "openSort" "[I") ∈ lw_all := lw_g (lw_at lw_m1 15 rfl) rfl
theorem q36 : (Jvm.Cond.fieldLink "DescriptorTable" (23 : Nat) "DescriptorTable" "openTarget" "[I") ∈ lw_all := lw_g (lw_at lw_m1 16 rfl) rfl
theorem q37 : (Jvm.Cond.fieldLink "DescriptorTable" (26 : Nat) "DescriptorTable" "openOffset" "[I") ∈ lw_all := lw_g (lw_at lw_m1 17 rfl) rfl
theorem q38 : (Jvm.Cond.fieldLink "DescriptorTable" (29 : Nat) "DescriptorTable" "fileOf" "[I") ∈ lw_all := lw_g (lw_at lw_m1 18 rfl) rfl
theorem q39 : (Jvm.Cond.fieldLink "DescriptorTable" (32 : Nat) "DescriptorTable" "fileUsers" "[I") ∈ lw_all := lw_g (lw_at lw_m1 19 rfl) rfl
theorem q40 : (Jvm.Cond.fieldLink "DescriptorTable" (35 : Nat) "DescriptorTable" "fileLength" "[I") ∈ lw_all := lw_g (lw_at lw_m1 20 rfl) rfl
theorem q41 : (Jvm.Cond.fieldLink "DescriptorTable" (38 : Nat) "DescriptorTable" "fileByte" "[I") ∈ lw_all := lw_g (lw_at lw_m1 21 rfl) rfl
theorem q42 : (Jvm.Cond.fieldLink "DescriptorTable" (41 : Nat) "DescriptorTable" "hasReader" "[Z") ∈ lw_all := lw_g (lw_at lw_m1 22 rfl) rfl
theorem q43 : (Jvm.Cond.fieldLink "DescriptorTable" (44 : Nat) "DescriptorTable" "hasWriter" "[Z") ∈ lw_all := lw_g (lw_at lw_m1 23 rfl) rfl
theorem q44 : (Jvm.Cond.fieldLink "DescriptorTable" (47 : Nat) "DescriptorTable" "pipeStart" "[I") ∈ lw_all := lw_g (lw_at lw_m1 24 rfl) rfl
theorem q45 : (Jvm.Cond.fieldLink "DescriptorTable" (50 : Nat) "DescriptorTable" "pipeCount" "[I") ∈ lw_all := lw_g (lw_at lw_m1 25 rfl) rfl
theorem q46 : (Jvm.Cond.fieldLink "DescriptorTable" (53 : Nat) "DescriptorTable" "pipeByte" "[I") ∈ lw_all := lw_g (lw_at lw_m1 26 rfl) rfl
theorem q47 : (Jvm.Cond.lays "DescriptorTable" "DescriptorTable" "living" "I") ∈ lw_all := lw_g (lw_at lw_m1 27 rfl) rfl
theorem q48 : (Jvm.Cond.soleField "DescriptorTable" "living") ∈ lw_all := lw_g (lw_at lw_m1 28 rfl) rfl
theorem q49 : (Jvm.Cond.laysFinal "DescriptorTable" "DescriptorTable" "alive" "[Z") ∈ lw_all := lw_g (lw_at lw_m1 29 rfl) rfl
theorem q50 : (Jvm.Cond.soleField "DescriptorTable" "alive") ∈ lw_all := lw_g (lw_at lw_m1 30 rfl) rfl
theorem q51 : (Jvm.Cond.laysFinal "DescriptorTable" "DescriptorTable" "opening" "[I") ∈ lw_all := lw_g (lw_at lw_m1 31 rfl) rfl
theorem q52 : (Jvm.Cond.soleField "DescriptorTable" "opening") ∈ lw_all := lw_g (lw_at lw_m1 32 rfl) rfl
theorem q53 : (Jvm.Cond.laysFinal "DescriptorTable" "DescriptorTable" "openUsers" "[I") ∈ lw_all := lw_g (lw_at lw_m1 33 rfl) rfl
theorem q54 : (Jvm.Cond.soleField "DescriptorTable" "openUsers") ∈ lw_all := lw_g (lw_at lw_m1 34 rfl) rfl
theorem q55 : (Jvm.Cond.laysFinal "DescriptorTable" "DescriptorTable" "openSort" "[I") ∈ lw_all := lw_g (lw_at lw_m1 35 rfl) rfl
theorem q56 : (Jvm.Cond.soleField "DescriptorTable" "openSort") ∈ lw_all := lw_g (lw_at lw_m1 36 rfl) rfl
theorem q57 : (Jvm.Cond.laysFinal "DescriptorTable" "DescriptorTable" "openTarget" "[I") ∈ lw_all := lw_g (lw_at lw_m1 37 rfl) rfl
theorem q58 : (Jvm.Cond.soleField "DescriptorTable" "openTarget") ∈ lw_all := lw_g (lw_at lw_m1 38 rfl) rfl
theorem q59 : (Jvm.Cond.laysFinal "DescriptorTable" "DescriptorTable" "openOffset" "[I") ∈ lw_all := lw_g (lw_at lw_m1 39 rfl) rfl
theorem q60 : (Jvm.Cond.soleField "DescriptorTable" "openOffset") ∈ lw_all := lw_g (lw_at lw_m1 40 rfl) rfl
theorem q61 : (Jvm.Cond.laysFinal "DescriptorTable" "DescriptorTable" "fileOf" "[I") ∈ lw_all := lw_g (lw_at lw_m1 41 rfl) rfl
theorem q62 : (Jvm.Cond.soleField "DescriptorTable" "fileOf") ∈ lw_all := lw_g (lw_at lw_m1 42 rfl) rfl
theorem q63 : (Jvm.Cond.laysFinal "DescriptorTable" "DescriptorTable" "fileUsers" "[I") ∈ lw_all := lw_g (lw_at lw_m1 43 rfl) rfl
theorem q64 : (Jvm.Cond.soleField "DescriptorTable" "fileUsers") ∈ lw_all := lw_g (lw_at lw_m1 44 rfl) rfl
theorem q65 : (Jvm.Cond.laysFinal "DescriptorTable" "DescriptorTable" "fileLength" "[I") ∈ lw_all := lw_g (lw_at lw_m1 45 rfl) rfl
theorem q66 : (Jvm.Cond.soleField "DescriptorTable" "fileLength") ∈ lw_all := lw_g (lw_at lw_m1 46 rfl) rfl
theorem q67 : (Jvm.Cond.laysFinal "DescriptorTable" "DescriptorTable" "fileByte" "[I") ∈ lw_all := lw_g (lw_at lw_m1 47 rfl) rfl
theorem q68 : (Jvm.Cond.soleField "DescriptorTable" "fileByte") ∈ lw_all := lw_g (lw_at lw_m1 48 rfl) rfl
theorem q69 : (Jvm.Cond.laysFinal "DescriptorTable" "DescriptorTable" "hasReader" "[Z") ∈ lw_all := lw_g (lw_at lw_m1 49 rfl) rfl
theorem q70 : (Jvm.Cond.soleField "DescriptorTable" "hasReader") ∈ lw_all := lw_g (lw_at lw_m1 50 rfl) rfl
theorem q71 : (Jvm.Cond.laysFinal "DescriptorTable" "DescriptorTable" "hasWriter" "[Z") ∈ lw_all := lw_g (lw_at lw_m1 51 rfl) rfl
theorem q72 : (Jvm.Cond.soleField "DescriptorTable" "hasWriter") ∈ lw_all := lw_g (lw_at lw_m1 52 rfl) rfl
theorem q73 : (Jvm.Cond.laysFinal "DescriptorTable" "DescriptorTable" "pipeStart" "[I") ∈ lw_all := lw_g (lw_at lw_m1 53 rfl) rfl
theorem q74 : (Jvm.Cond.soleField "DescriptorTable" "pipeStart") ∈ lw_all := lw_g (lw_at lw_m1 54 rfl) rfl
theorem q75 : (Jvm.Cond.laysFinal "DescriptorTable" "DescriptorTable" "pipeCount" "[I") ∈ lw_all := lw_g (lw_at lw_m1 55 rfl) rfl
theorem q76 : (Jvm.Cond.soleField "DescriptorTable" "pipeCount") ∈ lw_all := lw_g (lw_at lw_m1 56 rfl) rfl
theorem q77 : (Jvm.Cond.laysFinal "DescriptorTable" "DescriptorTable" "pipeByte" "[I") ∈ lw_all := lw_g (lw_at lw_m1 57 rfl) rfl
theorem q78 : (Jvm.Cond.soleField "DescriptorTable" "pipeByte") ∈ lw_all := lw_g (lw_at lw_m1 58 rfl) rfl
theorem q79 : (Jvm.Cond.superclass "DescriptorTable" "java/lang/Object") ∈ lw_all := lw_g (lw_at lw_m1 59 rfl) rfl
theorem q83 : (Jvm.Cond.instanceMethod ({ cls := "DescriptorTable", name := "open", desc := "(II)I" } : Jvm.MethodName)) ∈ lw_all := lw_g (lw_at lw_m1 63 rfl) rfl
theorem q84 : (Jvm.Cond.selects "DescriptorTable" ({ cls := "DescriptorTable", name := "open", desc := "(II)I" } : Jvm.MethodName) ({ cls := "DescriptorTable", name := "open", desc := "(II)I" } : Jvm.MethodName)) ∈ lw_all := lw_g (lw_at lw_m1 64 rfl) rfl
theorem q85 : (Jvm.Cond.code ({ cls := "DescriptorTable", name := "open", desc := "(II)I" } : Jvm.MethodName) prog_1_method_2_code (5 : Nat) (Option.some Jvm.ClassFile.FieldType.int)) ∈ lw_all := lw_g (lw_at lw_m1 65 rfl) rfl
theorem q86 : (Jvm.Cond.methodLink "DescriptorTable" (60 : Nat) ({ cls := "DescriptorTable", name := "isAlive", desc := "(I)Z" } : Jvm.MethodName)) ∈ lw_all := lw_g (lw_at lw_m1 66 rfl) rfl
theorem q87 : (Jvm.Cond.privateMethod ({ cls := "DescriptorTable", name := "isAlive", desc := "(I)Z" } : Jvm.MethodName)) ∈ lw_tbl := lw_at lw_m1 67 rfl
theorem q88 : (Jvm.Cond.instanceMethod ({ cls := "DescriptorTable", name := "isAlive", desc := "(I)Z" } : Jvm.MethodName)) ∈ lw_all := lw_g (lw_at lw_m1 68 rfl) rfl
theorem q89 : (Jvm.Cond.code ({ cls := "DescriptorTable", name := "isAlive", desc := "(I)Z" } : Jvm.MethodName) prog_1_method_18_code (2 : Nat) (Option.some Jvm.ClassFile.FieldType.boolean)) ∈ lw_all := lw_g (lw_at lw_m1 69 rfl) rfl
theorem q90 : (Jvm.Cond.methodLink "DescriptorTable" (64 : Nat) ({ cls := "DescriptorTable", name := "isName", desc := "(I)Z" } : Jvm.MethodName)) ∈ lw_all := lw_g (lw_at lw_m1 70 rfl) rfl
theorem q91 : (Jvm.Cond.static ({ cls := "DescriptorTable", name := "isName", desc := "(I)Z" } : Jvm.MethodName)) ∈ lw_all := lw_g (lw_at lw_m1 71 rfl) rfl
theorem q92 : (Jvm.Cond.code ({ cls := "DescriptorTable", name := "isName", desc := "(I)Z" } : Jvm.MethodName) prog_1_method_19_code (1 : Nat) (Option.some Jvm.ClassFile.FieldType.boolean)) ∈ lw_all := lw_g (lw_at lw_m1 72 rfl) rfl
theorem q93 : (Jvm.Cond.methodLink "DescriptorTable" (67 : Nat) ({ cls := "DescriptorTable", name := "freeDescriptor", desc := "(II)I" } : Jvm.MethodName)) ∈ lw_all := lw_g (lw_at lw_m1 73 rfl) rfl
theorem q94 : (Jvm.Cond.privateMethod ({ cls := "DescriptorTable", name := "freeDescriptor", desc := "(II)I" } : Jvm.MethodName)) ∈ lw_tbl := lw_at lw_m1 74 rfl
theorem q95 : (Jvm.Cond.instanceMethod ({ cls := "DescriptorTable", name := "freeDescriptor", desc := "(II)I" } : Jvm.MethodName)) ∈ lw_all := lw_g (lw_at lw_m1 75 rfl) rfl
theorem q96 : (Jvm.Cond.code ({ cls := "DescriptorTable", name := "freeDescriptor", desc := "(II)I" } : Jvm.MethodName) prog_1_method_21_code (4 : Nat) (Option.some Jvm.ClassFile.FieldType.int)) ∈ lw_all := lw_g (lw_at lw_m1 76 rfl) rfl
theorem q97 : (Jvm.Cond.methodLink "DescriptorTable" (71 : Nat) ({ cls := "DescriptorTable", name := "freeFile", desc := "()I" } : Jvm.MethodName)) ∈ lw_all := lw_g (lw_at lw_m1 77 rfl) rfl
theorem q98 : (Jvm.Cond.privateMethod ({ cls := "DescriptorTable", name := "freeFile", desc := "()I" } : Jvm.MethodName)) ∈ lw_tbl := lw_at lw_m1 78 rfl
theorem q99 : (Jvm.Cond.instanceMethod ({ cls := "DescriptorTable", name := "freeFile", desc := "()I" } : Jvm.MethodName)) ∈ lw_all := lw_g (lw_at lw_m1 79 rfl) rfl
theorem q100 : (Jvm.Cond.code ({ cls := "DescriptorTable", name := "freeFile", desc := "()I" } : Jvm.MethodName) prog_1_method_23_code (3 : Nat) (Option.some Jvm.ClassFile.FieldType.int)) ∈ lw_all := lw_g (lw_at lw_m1 80 rfl) rfl
theorem q101 : (Jvm.Cond.methodLink "DescriptorTable" (75 : Nat) ({ cls := "DescriptorTable", name := "newOpening", desc := "(II)I" } : Jvm.MethodName)) ∈ lw_all := lw_g (lw_at lw_m1 81 rfl) rfl
theorem q102 : (Jvm.Cond.privateMethod ({ cls := "DescriptorTable", name := "newOpening", desc := "(II)I" } : Jvm.MethodName)) ∈ lw_tbl := lw_at lw_m1 82 rfl
theorem q103 : (Jvm.Cond.instanceMethod ({ cls := "DescriptorTable", name := "newOpening", desc := "(II)I" } : Jvm.MethodName)) ∈ lw_all := lw_g (lw_at lw_m1 83 rfl) rfl
theorem q104 : (Jvm.Cond.code ({ cls := "DescriptorTable", name := "newOpening", desc := "(II)I" } : Jvm.MethodName) prog_1_method_22_code (5 : Nat) (Option.some Jvm.ClassFile.FieldType.int)) ∈ lw_all := lw_g (lw_at lw_m1 84 rfl) rfl
theorem q106 : (Jvm.Cond.instanceMethod ({ cls := "DescriptorTable", name := "pipe", desc := "(I)I" } : Jvm.MethodName)) ∈ lw_all := lw_g (lw_at lw_m1 86 rfl) rfl
theorem q107 : (Jvm.Cond.selects "DescriptorTable" ({ cls := "DescriptorTable", name := "pipe", desc := "(I)I" } : Jvm.MethodName) ({ cls := "DescriptorTable", name := "pipe", desc := "(I)I" } : Jvm.MethodName)) ∈ lw_all := lw_g (lw_at lw_m1 87 rfl) rfl
theorem q108 : (Jvm.Cond.code ({ cls := "DescriptorTable", name := "pipe", desc := "(I)I" } : Jvm.MethodName) prog_1_method_3_code (5 : Nat) (Option.some Jvm.ClassFile.FieldType.int)) ∈ lw_all := lw_g (lw_at lw_m1 88 rfl) rfl
theorem q109 : (Jvm.Cond.methodLink "DescriptorTable" (78 : Nat) ({ cls := "DescriptorTable", name := "freePipe", desc := "()I" } : Jvm.MethodName)) ∈ lw_all := lw_g (lw_at lw_m1 89 rfl) rfl
theorem q110 : (Jvm.Cond.privateMethod ({ cls := "DescriptorTable", name := "freePipe", desc := "()I" } : Jvm.MethodName)) ∈ lw_tbl := lw_at lw_m1 90 rfl
theorem q111 : (Jvm.Cond.instanceMethod ({ cls := "DescriptorTable", name := "freePipe", desc := "()I" } : Jvm.MethodName)) ∈ lw_all := lw_g (lw_at lw_m1 91 rfl) rfl
theorem q112 : (Jvm.Cond.code ({ cls := "DescriptorTable", name := "freePipe", desc := "()I" } : Jvm.MethodName) prog_1_method_24_code (3 : Nat) (Option.some Jvm.ClassFile.FieldType.int)) ∈ lw_all := lw_g (lw_at lw_m1 92 rfl) rfl
theorem q114 : (Jvm.Cond.instanceMethod ({ cls := "DescriptorTable", name := "dup", desc := "(II)I" } : Jvm.MethodName)) ∈ lw_all := lw_g (lw_at lw_m1 94 rfl) rfl
theorem q115 : (Jvm.Cond.selects "DescriptorTable" ({ cls := "DescriptorTable", name := "dup", desc := "(II)I" } : Jvm.MethodName) ({ cls := "DescriptorTable", name := "dup", desc := "(II)I" } : Jvm.MethodName)) ∈ lw_all := lw_g (lw_at lw_m1 95 rfl) rfl
theorem q116 : (Jvm.Cond.code ({ cls := "DescriptorTable", name := "dup", desc := "(II)I" } : Jvm.MethodName) prog_1_method_4_code (5 : Nat) (Option.some Jvm.ClassFile.FieldType.int)) ∈ lw_all := lw_g (lw_at lw_m1 96 rfl) rfl
theorem q117 : (Jvm.Cond.methodLink "DescriptorTable" (81 : Nat) ({ cls := "DescriptorTable", name := "openingOf", desc := "(II)I" } : Jvm.MethodName)) ∈ lw_all := lw_g (lw_at lw_m1 97 rfl) rfl
theorem q118 : (Jvm.Cond.privateMethod ({ cls := "DescriptorTable", name := "openingOf", desc := "(II)I" } : Jvm.MethodName)) ∈ lw_tbl := lw_at lw_m1 98 rfl
theorem q119 : (Jvm.Cond.instanceMethod ({ cls := "DescriptorTable", name := "openingOf", desc := "(II)I" } : Jvm.MethodName)) ∈ lw_all := lw_g (lw_at lw_m1 99 rfl) rfl
theorem q120 : (Jvm.Cond.code ({ cls := "DescriptorTable", name := "openingOf", desc := "(II)I" } : Jvm.MethodName) prog_1_method_20_code (3 : Nat) (Option.some Jvm.ClassFile.FieldType.int)) ∈ lw_all := lw_g (lw_at lw_m1 100 rfl) rfl
theorem q122 : (Jvm.Cond.instanceMethod ({ cls := "DescriptorTable", name := "close", desc := "(II)I" } : Jvm.MethodName)) ∈ lw_all := lw_g (lw_at lw_m1 102 rfl) rfl
theorem q123 : (Jvm.Cond.selects "DescriptorTable" ({ cls := "DescriptorTable", name := "close", desc := "(II)I" } : Jvm.MethodName) ({ cls := "DescriptorTable", name := "close", desc := "(II)I" } : Jvm.MethodName)) ∈ lw_all := lw_g (lw_at lw_m1 103 rfl) rfl
theorem q124 : (Jvm.Cond.code ({ cls := "DescriptorTable", name := "close", desc := "(II)I" } : Jvm.MethodName) prog_1_method_5_code (4 : Nat) (Option.some Jvm.ClassFile.FieldType.int)) ∈ lw_all := lw_g (lw_at lw_m1 104 rfl) rfl
theorem q125 : (Jvm.Cond.methodLink "DescriptorTable" (84 : Nat) ({ cls := "DescriptorTable", name := "letGo", desc := "(I)V" } : Jvm.MethodName)) ∈ lw_all := lw_g (lw_at lw_m1 105 rfl) rfl
theorem q126 : (Jvm.Cond.privateMethod ({ cls := "DescriptorTable", name := "letGo", desc := "(I)V" } : Jvm.MethodName)) ∈ lw_tbl := lw_at lw_m1 106 rfl
theorem q127 : (Jvm.Cond.instanceMethod ({ cls := "DescriptorTable", name := "letGo", desc := "(I)V" } : Jvm.MethodName)) ∈ lw_all := lw_g (lw_at lw_m1 107 rfl) rfl
theorem q128 : (Jvm.Cond.code ({ cls := "DescriptorTable", name := "letGo", desc := "(I)V" } : Jvm.MethodName) prog_1_method_25_code (2 : Nat) (Option.none : Option Jvm.ClassFile.FieldType)) ∈ lw_all := lw_g (lw_at lw_m1 108 rfl) rfl
theorem q130 : (Jvm.Cond.instanceMethod ({ cls := "DescriptorTable", name := "fork", desc := "(I)I" } : Jvm.MethodName)) ∈ lw_all := lw_g (lw_at lw_m1 110 rfl) rfl
theorem q131 : (Jvm.Cond.selects "DescriptorTable" ({ cls := "DescriptorTable", name := "fork", desc := "(I)I" } : Jvm.MethodName) ({ cls := "DescriptorTable", name := "fork", desc := "(I)I" } : Jvm.MethodName)) ∈ lw_all := lw_g (lw_at lw_m1 111 rfl) rfl
theorem q132 : (Jvm.Cond.code ({ cls := "DescriptorTable", name := "fork", desc := "(I)I" } : Jvm.MethodName) prog_1_method_6_code (5 : Nat) (Option.some Jvm.ClassFile.FieldType.int)) ∈ lw_all := lw_g (lw_at lw_m1 112 rfl) rfl
theorem q134 : (Jvm.Cond.instanceMethod ({ cls := "DescriptorTable", name := "exit", desc := "(I)I" } : Jvm.MethodName)) ∈ lw_all := lw_g (lw_at lw_m1 114 rfl) rfl
theorem q135 : (Jvm.Cond.selects "DescriptorTable" ({ cls := "DescriptorTable", name := "exit", desc := "(I)I" } : Jvm.MethodName) ({ cls := "DescriptorTable", name := "exit", desc := "(I)I" } : Jvm.MethodName)) ∈ lw_all := lw_g (lw_at lw_m1 115 rfl) rfl
theorem q136 : (Jvm.Cond.code ({ cls := "DescriptorTable", name := "exit", desc := "(I)I" } : Jvm.MethodName) prog_1_method_7_code (4 : Nat) (Option.some Jvm.ClassFile.FieldType.int)) ∈ lw_all := lw_g (lw_at lw_m1 116 rfl) rfl
theorem q138 : (Jvm.Cond.instanceMethod ({ cls := "DescriptorTable", name := "write", desc := "(III)I" } : Jvm.MethodName)) ∈ lw_all := lw_g (lw_at lw_m1 118 rfl) rfl
theorem q139 : (Jvm.Cond.selects "DescriptorTable" ({ cls := "DescriptorTable", name := "write", desc := "(III)I" } : Jvm.MethodName) ({ cls := "DescriptorTable", name := "write", desc := "(III)I" } : Jvm.MethodName)) ∈ lw_all := lw_g (lw_at lw_m1 119 rfl) rfl
theorem q140 : (Jvm.Cond.code ({ cls := "DescriptorTable", name := "write", desc := "(III)I" } : Jvm.MethodName) prog_1_method_8_code (5 : Nat) (Option.some Jvm.ClassFile.FieldType.int)) ∈ lw_all := lw_g (lw_at lw_m1 120 rfl) rfl
theorem q141 : (Jvm.Cond.methodLink "DescriptorTable" (88 : Nat) ({ cls := "DescriptorTable", name := "writeFile", desc := "(II)I" } : Jvm.MethodName)) ∈ lw_all := lw_g (lw_at lw_m1 121 rfl) rfl
theorem q142 : (Jvm.Cond.privateMethod ({ cls := "DescriptorTable", name := "writeFile", desc := "(II)I" } : Jvm.MethodName)) ∈ lw_tbl := lw_at lw_m1 122 rfl
theorem q143 : (Jvm.Cond.instanceMethod ({ cls := "DescriptorTable", name := "writeFile", desc := "(II)I" } : Jvm.MethodName)) ∈ lw_all := lw_g (lw_at lw_m1 123 rfl) rfl
theorem q144 : (Jvm.Cond.code ({ cls := "DescriptorTable", name := "writeFile", desc := "(II)I" } : Jvm.MethodName) prog_1_method_11_code (5 : Nat) (Option.some Jvm.ClassFile.FieldType.int)) ∈ lw_all := lw_g (lw_at lw_m1 124 rfl) rfl
theorem q145 : (Jvm.Cond.methodLink "DescriptorTable" (91 : Nat) ({ cls := "DescriptorTable", name := "writePipe", desc := "(II)I" } : Jvm.MethodName)) ∈ lw_all := lw_g (lw_at lw_m1 125 rfl) rfl
theorem q146 : (Jvm.Cond.privateMethod ({ cls := "DescriptorTable", name := "writePipe", desc := "(II)I" } : Jvm.MethodName)) ∈ lw_tbl := lw_at lw_m1 126 rfl
theorem q147 : (Jvm.Cond.instanceMethod ({ cls := "DescriptorTable", name := "writePipe", desc := "(II)I" } : Jvm.MethodName)) ∈ lw_all := lw_g (lw_at lw_m1 127 rfl) rfl
theorem q148 : (Jvm.Cond.code ({ cls := "DescriptorTable", name := "writePipe", desc := "(II)I" } : Jvm.MethodName) prog_1_method_13_code (4 : Nat) (Option.some Jvm.ClassFile.FieldType.int)) ∈ lw_all := lw_g (lw_at lw_m1 128 rfl) rfl
theorem q150 : (Jvm.Cond.instanceMethod ({ cls := "DescriptorTable", name := "read", desc := "(II)I" } : Jvm.MethodName)) ∈ lw_all := lw_g (lw_at lw_m1 130 rfl) rfl
theorem q151 : (Jvm.Cond.selects "DescriptorTable" ({ cls := "DescriptorTable", name := "read", desc := "(II)I" } : Jvm.MethodName) ({ cls := "DescriptorTable", name := "read", desc := "(II)I" } : Jvm.MethodName)) ∈ lw_all := lw_g (lw_at lw_m1 131 rfl) rfl
theorem q152 : (Jvm.Cond.code ({ cls := "DescriptorTable", name := "read", desc := "(II)I" } : Jvm.MethodName) prog_1_method_9_code (4 : Nat) (Option.some Jvm.ClassFile.FieldType.int)) ∈ lw_all := lw_g (lw_at lw_m1 132 rfl) rfl
theorem q153 : (Jvm.Cond.methodLink "DescriptorTable" (94 : Nat) ({ cls := "DescriptorTable", name := "readFile", desc := "(I)I" } : Jvm.MethodName)) ∈ lw_all := lw_g (lw_at lw_m1 133 rfl) rfl
theorem q154 : (Jvm.Cond.privateMethod ({ cls := "DescriptorTable", name := "readFile", desc := "(I)I" } : Jvm.MethodName)) ∈ lw_tbl := lw_at lw_m1 134 rfl
theorem q155 : (Jvm.Cond.instanceMethod ({ cls := "DescriptorTable", name := "readFile", desc := "(I)I" } : Jvm.MethodName)) ∈ lw_all := lw_g (lw_at lw_m1 135 rfl) rfl
theorem q156 : (Jvm.Cond.code ({ cls := "DescriptorTable", name := "readFile", desc := "(I)I" } : Jvm.MethodName) prog_1_method_12_code (4 : Nat) (Option.some Jvm.ClassFile.FieldType.int)) ∈ lw_all := lw_g (lw_at lw_m1 136 rfl) rfl
theorem q157 : (Jvm.Cond.methodLink "DescriptorTable" (98 : Nat) ({ cls := "DescriptorTable", name := "readPipe", desc := "(I)I" } : Jvm.MethodName)) ∈ lw_all := lw_g (lw_at lw_m1 137 rfl) rfl
theorem q158 : (Jvm.Cond.privateMethod ({ cls := "DescriptorTable", name := "readPipe", desc := "(I)I" } : Jvm.MethodName)) ∈ lw_tbl := lw_at lw_m1 138 rfl
theorem q159 : (Jvm.Cond.instanceMethod ({ cls := "DescriptorTable", name := "readPipe", desc := "(I)I" } : Jvm.MethodName)) ∈ lw_all := lw_g (lw_at lw_m1 139 rfl) rfl
theorem q160 : (Jvm.Cond.code ({ cls := "DescriptorTable", name := "readPipe", desc := "(I)I" } : Jvm.MethodName) prog_1_method_14_code (3 : Nat) (Option.some Jvm.ClassFile.FieldType.int)) ∈ lw_all := lw_g (lw_at lw_m1 140 rfl) rfl
theorem q162 : (Jvm.Cond.instanceMethod ({ cls := "DescriptorTable", name := "seek", desc := "(III)I" } : Jvm.MethodName)) ∈ lw_all := lw_g (lw_at lw_m1 142 rfl) rfl
theorem q163 : (Jvm.Cond.selects "DescriptorTable" ({ cls := "DescriptorTable", name := "seek", desc := "(III)I" } : Jvm.MethodName) ({ cls := "DescriptorTable", name := "seek", desc := "(III)I" } : Jvm.MethodName)) ∈ lw_all := lw_g (lw_at lw_m1 143 rfl) rfl
theorem q164 : (Jvm.Cond.code ({ cls := "DescriptorTable", name := "seek", desc := "(III)I" } : Jvm.MethodName) prog_1_method_10_code (5 : Nat) (Option.some Jvm.ClassFile.FieldType.int)) ∈ lw_all := lw_g (lw_at lw_m1 144 rfl) rfl
theorem q166 : (Jvm.Cond.instanceMethod ({ cls := "DescriptorTable", name := "link", desc := "(II)I" } : Jvm.MethodName)) ∈ lw_all := lw_g (lw_at lw_m1 146 rfl) rfl
theorem q167 : (Jvm.Cond.selects "DescriptorTable" ({ cls := "DescriptorTable", name := "link", desc := "(II)I" } : Jvm.MethodName) ({ cls := "DescriptorTable", name := "link", desc := "(II)I" } : Jvm.MethodName)) ∈ lw_all := lw_g (lw_at lw_m1 147 rfl) rfl
theorem q168 : (Jvm.Cond.code ({ cls := "DescriptorTable", name := "link", desc := "(II)I" } : Jvm.MethodName) prog_1_method_15_code (3 : Nat) (Option.some Jvm.ClassFile.FieldType.int)) ∈ lw_all := lw_g (lw_at lw_m1 148 rfl) rfl
theorem q170 : (Jvm.Cond.instanceMethod ({ cls := "DescriptorTable", name := "unlink", desc := "(I)I" } : Jvm.MethodName)) ∈ lw_all := lw_g (lw_at lw_m1 150 rfl) rfl
theorem q171 : (Jvm.Cond.selects "DescriptorTable" ({ cls := "DescriptorTable", name := "unlink", desc := "(I)I" } : Jvm.MethodName) ({ cls := "DescriptorTable", name := "unlink", desc := "(I)I" } : Jvm.MethodName)) ∈ lw_all := lw_g (lw_at lw_m1 151 rfl) rfl
theorem q172 : (Jvm.Cond.code ({ cls := "DescriptorTable", name := "unlink", desc := "(I)I" } : Jvm.MethodName) prog_1_method_16_code (2 : Nat) (Option.some Jvm.ClassFile.FieldType.int)) ∈ lw_all := lw_g (lw_at lw_m1 152 rfl) rfl
theorem q174 : (Jvm.Cond.instanceMethod ({ cls := "DescriptorTable", name := "counts", desc := "()I" } : Jvm.MethodName)) ∈ lw_all := lw_g (lw_at lw_m1 154 rfl) rfl
theorem q175 : (Jvm.Cond.selects "DescriptorTable" ({ cls := "DescriptorTable", name := "counts", desc := "()I" } : Jvm.MethodName) ({ cls := "DescriptorTable", name := "counts", desc := "()I" } : Jvm.MethodName)) ∈ lw_all := lw_g (lw_at lw_m1 155 rfl) rfl
theorem q176 : (Jvm.Cond.code ({ cls := "DescriptorTable", name := "counts", desc := "()I" } : Jvm.MethodName) prog_1_method_17_code (5 : Nat) (Option.some Jvm.ClassFile.FieldType.int)) ∈ lw_all := lw_g (lw_at lw_m1 156 rfl) rfl
theorem in_X0 : ∀ w ∈ wsX00, w ∈ lw_all := lw_in wsX00 [47, 49, 51, 53, 55, 57, 59, 61, 63, 65, 67, 69, 71, 73, 75, 77] (by decide +kernel) (by decide +kernel)
end
section
/-! DescriptorTableModel -/
set_option maxRecDepth 100000
def RX1 : String := "DescriptorTableModel"
def TX1 : u_T := fun k => match k with
  | 0 => ("DescriptorTableModel", "alive", "[Z", true)
  | 1 => ("DescriptorTableModel", "leads", "[I", true)
  | 2 => ("DescriptorTableModel", "sort", "[I", true)
  | 3 => ("DescriptorTableModel", "what", "[I", true)
  | 4 => ("DescriptorTableModel", "offset", "[I", true)
  | 5 => ("DescriptorTableModel", "named", "[I", true)
  | 6 => ("DescriptorTableModel", "fileSize", "[I", true)
  | 7 => ("DescriptorTableModel", "fileBytes", "[I", true)
  | 8 => ("DescriptorTableModel", "pipeSize", "[I", true)
  | _ => ("DescriptorTableModel", "pipeBytes", "[I", true)
def tyX1 : Nat → FieldType := fun k => match k with
  | 0 => .array .boolean
  | 1 => .array .int
  | 2 => .array .int
  | 3 => .array .int
  | 4 => .array .int
  | 5 => .array .int
  | 6 => .array .int
  | 7 => .array .int
  | 8 => .array .int
  | _ => .array .int
abbrev wsX10 : List Cond := u_ws RX1 TX1 10
theorem nmX1 : ∀ a, a < 10 → ∀ b, b < 10 → a ≠ b → (TX1 a).2.1 ≠ (TX1 b).2.1 := by decide +kernel
theorem tyX1_ok : ∀ k, k < 10 → parseFieldDescriptor (TX1 k).2.2.1 = some (tyX1 k) := by decide +kernel
abbrev cX1_init : ByteArray := prog_3_method_1_code
def yX1_init : MethodName := ⟨RX1, "<init>", "()V"⟩
theorem dX1_init_0 : decode cX1_init 0 = .ok (.aload_n 0, 1) := by decide +kernel
theorem dX1_init_1 : decode cX1_init 1 = .ok (.invokespecial 1, 3) := by decide +kernel
theorem dX1_init_4 : decode cX1_init 4 = .ok (.aload_n 0, 1) := by decide +kernel
theorem dX1_init_5 : decode cX1_init 5 = .ok (.iconst 4, 1) := by decide +kernel
theorem dX1_init_6 : decode cX1_init 6 = .ok (.newarray .boolean, 2) := by decide +kernel
theorem dX1_init_8 : decode cX1_init 8 = .ok (.putfield 7, 3) := by decide +kernel
theorem dX1_init_11 : decode cX1_init 11 = .ok (.aload_n 0, 1) := by decide +kernel
theorem dX1_init_12 : decode cX1_init 12 = .ok (.bipush 24, 2) := by decide +kernel
theorem dX1_init_14 : decode cX1_init 14 = .ok (.newarray .int, 2) := by decide +kernel
theorem dX1_init_16 : decode cX1_init 16 = .ok (.putfield 13, 3) := by decide +kernel
theorem dX1_init_19 : decode cX1_init 19 = .ok (.aload_n 0, 1) := by decide +kernel
theorem dX1_init_20 : decode cX1_init 20 = .ok (.bipush 24, 2) := by decide +kernel
theorem dX1_init_22 : decode cX1_init 22 = .ok (.newarray .int, 2) := by decide +kernel
theorem dX1_init_24 : decode cX1_init 24 = .ok (.putfield 17, 3) := by decide +kernel
theorem dX1_init_27 : decode cX1_init 27 = .ok (.aload_n 0, 1) := by decide +kernel
theorem dX1_init_28 : decode cX1_init 28 = .ok (.bipush 24, 2) := by decide +kernel
theorem dX1_init_30 : decode cX1_init 30 = .ok (.newarray .int, 2) := by decide +kernel
theorem dX1_init_32 : decode cX1_init 32 = .ok (.putfield 20, 3) := by decide +kernel
theorem dX1_init_35 : decode cX1_init 35 = .ok (.aload_n 0, 1) := by decide +kernel
theorem dX1_init_36 : decode cX1_init 36 = .ok (.bipush 24, 2) := by decide +kernel
theorem dX1_init_38 : decode cX1_init 38 = .ok (.newarray .int, 2) := by decide +kernel
theorem dX1_init_40 : decode cX1_init 40 = .ok (.putfield 23, 3) := by decide +kernel
theorem dX1_init_43 : decode cX1_init 43 = .ok (.aload_n 0, 1) := by decide +kernel
theorem dX1_init_44 : decode cX1_init 44 = .ok (.iconst 4, 1) := by decide +kernel
theorem dX1_init_45 : decode cX1_init 45 = .ok (.newarray .int, 2) := by decide +kernel
theorem dX1_init_47 : decode cX1_init 47 = .ok (.putfield 26, 3) := by decide +kernel
theorem dX1_init_50 : decode cX1_init 50 = .ok (.aload_n 0, 1) := by decide +kernel
theorem dX1_init_51 : decode cX1_init 51 = .ok (.bipush 28, 2) := by decide +kernel
theorem dX1_init_53 : decode cX1_init 53 = .ok (.newarray .int, 2) := by decide +kernel
theorem dX1_init_55 : decode cX1_init 55 = .ok (.putfield 29, 3) := by decide +kernel
theorem dX1_init_58 : decode cX1_init 58 = .ok (.aload_n 0, 1) := by decide +kernel
theorem dX1_init_59 : decode cX1_init 59 = .ok (.sipush 224, 3) := by decide +kernel
theorem dX1_init_62 : decode cX1_init 62 = .ok (.newarray .int, 2) := by decide +kernel
theorem dX1_init_64 : decode cX1_init 64 = .ok (.putfield 32, 3) := by decide +kernel
theorem dX1_init_67 : decode cX1_init 67 = .ok (.aload_n 0, 1) := by decide +kernel
theorem dX1_init_68 : decode cX1_init 68 = .ok (.bipush 24, 2) := by decide +kernel
theorem dX1_init_70 : decode cX1_init 70 = .ok (.newarray .int, 2) := by decide +kernel
theorem dX1_init_72 : decode cX1_init 72 = .ok (.putfield 35, 3) := by decide +kernel
theorem dX1_init_75 : decode cX1_init 75 = .ok (.aload_n 0, 1) := by decide +kernel
theorem dX1_init_76 : decode cX1_init 76 = .ok (.sipush 144, 3) := by decide +kernel
theorem dX1_init_79 : decode cX1_init 79 = .ok (.newarray .int, 2) := by decide +kernel
theorem dX1_init_81 : decode cX1_init 81 = .ok (.putfield 38, 3) := by decide +kernel
theorem dX1_init_84 : decode cX1_init 84 = .ok (.aload_n 0, 1) := by decide +kernel
theorem dX1_init_85 : decode cX1_init 85 = .ok (.getfield 7, 3) := by decide +kernel
theorem dX1_init_88 : decode cX1_init 88 = .ok (.iconst 0, 1) := by decide +kernel
theorem dX1_init_89 : decode cX1_init 89 = .ok (.iconst 1, 1) := by decide +kernel
theorem dX1_init_90 : decode cX1_init 90 = .ok (.bastore, 1) := by decide +kernel
theorem dX1_init_91 : decode cX1_init 91 = .ok (.iconst 0, 1) := by decide +kernel
theorem dX1_init_92 : decode cX1_init 92 = .ok (.istore_n 1, 1) := by decide +kernel
theorem dX1_init_93 : decode cX1_init 93 = .ok (.iload_n 1, 1) := by decide +kernel
theorem dX1_init_94 : decode cX1_init 94 = .ok (.bipush 24, 2) := by decide +kernel
theorem dX1_init_96 : decode cX1_init 96 = .ok (.if_icmp .ge 16, 3) := by decide +kernel
theorem dX1_init_99 : decode cX1_init 99 = .ok (.aload_n 0, 1) := by decide +kernel
theorem dX1_init_100 : decode cX1_init 100 = .ok (.getfield 13, 3) := by decide +kernel
theorem dX1_init_103 : decode cX1_init 103 = .ok (.iload_n 1, 1) := by decide +kernel
theorem dX1_init_104 : decode cX1_init 104 = .ok (.iconst (-1), 1) := by decide +kernel
theorem dX1_init_105 : decode cX1_init 105 = .ok (.iastore, 1) := by decide +kernel
theorem dX1_init_106 : decode cX1_init 106 = .ok (.iinc 1 1, 3) := by decide +kernel
theorem dX1_init_109 : decode cX1_init 109 = .ok (.goto (-16), 3) := by decide +kernel
theorem dX1_init_112 : decode cX1_init 112 = .ok (.iconst 0, 1) := by decide +kernel
theorem dX1_init_113 : decode cX1_init 113 = .ok (.istore_n 1, 1) := by decide +kernel
theorem dX1_init_114 : decode cX1_init 114 = .ok (.iload_n 1, 1) := by decide +kernel
theorem dX1_init_115 : decode cX1_init 115 = .ok (.iconst 4, 1) := by decide +kernel
theorem dX1_init_116 : decode cX1_init 116 = .ok (.if_icmp .ge 16, 3) := by decide +kernel
theorem dX1_init_119 : decode cX1_init 119 = .ok (.aload_n 0, 1) := by decide +kernel
theorem dX1_init_120 : decode cX1_init 120 = .ok (.getfield 26, 3) := by decide +kernel
theorem dX1_init_123 : decode cX1_init 123 = .ok (.iload_n 1, 1) := by decide +kernel
theorem dX1_init_124 : decode cX1_init 124 = .ok (.iconst (-1), 1) := by decide +kernel
theorem dX1_init_125 : decode cX1_init 125 = .ok (.iastore, 1) := by decide +kernel
theorem dX1_init_126 : decode cX1_init 126 = .ok (.iinc 1 1, 3) := by decide +kernel
theorem dX1_init_129 : decode cX1_init 129 = .ok (.goto (-15), 3) := by decide +kernel
theorem dX1_init_132 : decode cX1_init 132 = .ok (.return_, 1) := by decide +kernel
abbrev cX1_open : ByteArray := prog_3_method_11_code
def yX1_open : MethodName := ⟨RX1, "open", "(II)I"⟩
theorem dX1_open_0 : decode cX1_open 0 = .ok (.aload_n 0, 1) := by decide +kernel
theorem dX1_open_1 : decode cX1_open 1 = .ok (.iload_n 1, 1) := by decide +kernel
theorem dX1_open_2 : decode cX1_open 2 = .ok (.invokevirtual 41, 3) := by decide +kernel
theorem dX1_open_5 : decode cX1_open 5 = .ok (.ifCond .ne 10, 3) := by decide +kernel
theorem dX1_open_8 : decode cX1_open 8 = .ok (.iload_n 2, 1) := by decide +kernel
theorem dX1_open_9 : decode cX1_open 9 = .ok (.invokestatic 59, 3) := by decide +kernel
theorem dX1_open_12 : decode cX1_open 12 = .ok (.ifCond .eq 5, 3) := by decide +kernel
theorem dX1_open_15 : decode cX1_open 15 = .ok (.iconst (-1), 1) := by decide +kernel
theorem dX1_open_16 : decode cX1_open 16 = .ok (.ireturn, 1) := by decide +kernel
theorem dX1_open_17 : decode cX1_open 17 = .ok (.aload_n 0, 1) := by decide +kernel
theorem dX1_open_18 : decode cX1_open 18 = .ok (.iload_n 1, 1) := by decide +kernel
theorem dX1_open_19 : decode cX1_open 19 = .ok (.invokevirtual 52, 3) := by decide +kernel
theorem dX1_open_22 : decode cX1_open 22 = .ok (.ifCond .ge 6, 3) := by decide +kernel
theorem dX1_open_25 : decode cX1_open 25 = .ok (.bipush (-2), 2) := by decide +kernel
theorem dX1_open_27 : decode cX1_open 27 = .ok (.ireturn, 1) := by decide +kernel
theorem dX1_open_28 : decode cX1_open 28 = .ok (.aload_n 0, 1) := by decide +kernel
theorem dX1_open_29 : decode cX1_open 29 = .ok (.getfield 26, 3) := by decide +kernel
theorem dX1_open_32 : decode cX1_open 32 = .ok (.iload_n 2, 1) := by decide +kernel
theorem dX1_open_33 : decode cX1_open 33 = .ok (.iaload, 1) := by decide +kernel
theorem dX1_open_34 : decode cX1_open 34 = .ok (.ifCond .ge 13, 3) := by decide +kernel
theorem dX1_open_37 : decode cX1_open 37 = .ok (.aload_n 0, 1) := by decide +kernel
theorem dX1_open_38 : decode cX1_open 38 = .ok (.getfield 26, 3) := by decide +kernel
theorem dX1_open_41 : decode cX1_open 41 = .ok (.iload_n 2, 1) := by decide +kernel
theorem dX1_open_42 : decode cX1_open 42 = .ok (.aload_n 0, 1) := by decide +kernel
theorem dX1_open_43 : decode cX1_open 43 = .ok (.invokevirtual 62, 3) := by decide +kernel
theorem dX1_open_46 : decode cX1_open 46 = .ok (.iastore, 1) := by decide +kernel
theorem dX1_open_47 : decode cX1_open 47 = .ok (.aload_n 0, 1) := by decide +kernel
theorem dX1_open_48 : decode cX1_open 48 = .ok (.iload_n 1, 1) := by decide +kernel
theorem dX1_open_49 : decode cX1_open 49 = .ok (.iconst 0, 1) := by decide +kernel
theorem dX1_open_50 : decode cX1_open 50 = .ok (.aload_n 0, 1) := by decide +kernel
theorem dX1_open_51 : decode cX1_open 51 = .ok (.getfield 26, 3) := by decide +kernel
theorem dX1_open_54 : decode cX1_open 54 = .ok (.iload_n 2, 1) := by decide +kernel
theorem dX1_open_55 : decode cX1_open 55 = .ok (.iaload, 1) := by decide +kernel
theorem dX1_open_56 : decode cX1_open 56 = .ok (.invokevirtual 66, 3) := by decide +kernel
theorem dX1_open_59 : decode cX1_open 59 = .ok (.ireturn, 1) := by decide +kernel
abbrev cX1_dead : ByteArray := prog_3_method_2_code
def yX1_dead : MethodName := ⟨RX1, "dead", "(I)Z"⟩
theorem dX1_dead_0 : decode cX1_dead 0 = .ok (.iload_n 1, 1) := by decide +kernel
theorem dX1_dead_1 : decode cX1_dead 1 = .ok (.ifCond .lt 17, 3) := by decide +kernel
theorem dX1_dead_4 : decode cX1_dead 4 = .ok (.iload_n 1, 1) := by decide +kernel
theorem dX1_dead_5 : decode cX1_dead 5 = .ok (.iconst 3, 1) := by decide +kernel
theorem dX1_dead_6 : decode cX1_dead 6 = .ok (.if_icmp .gt 12, 3) := by decide +kernel
theorem dX1_dead_9 : decode cX1_dead 9 = .ok (.aload_n 0, 1) := by decide +kernel
theorem dX1_dead_10 : decode cX1_dead 10 = .ok (.getfield 7, 3) := by decide +kernel
theorem dX1_dead_13 : decode cX1_dead 13 = .ok (.iload_n 1, 1) := by decide +kernel
theorem dX1_dead_14 : decode cX1_dead 14 = .ok (.baload, 1) := by decide +kernel
theorem dX1_dead_15 : decode cX1_dead 15 = .ok (.ifCond .ne 7, 3) := by decide +kernel
theorem dX1_dead_18 : decode cX1_dead 18 = .ok (.iconst 1, 1) := by decide +kernel
theorem dX1_dead_19 : decode cX1_dead 19 = .ok (.goto 4, 3) := by decide +kernel
theorem dX1_dead_22 : decode cX1_dead 22 = .ok (.iconst 0, 1) := by decide +kernel
theorem dX1_dead_23 : decode cX1_dead 23 = .ok (.ireturn, 1) := by decide +kernel
abbrev cX1_badName : ByteArray := prog_3_method_4_code
def yX1_badName : MethodName := ⟨RX1, "badName", "(I)Z"⟩
theorem dX1_badName_0 : decode cX1_badName 0 = .ok (.iload_n 0, 1) := by decide +kernel
theorem dX1_badName_1 : decode cX1_badName 1 = .ok (.ifCond .lt 8, 3) := by decide +kernel
theorem dX1_badName_4 : decode cX1_badName 4 = .ok (.iload_n 0, 1) := by decide +kernel
theorem dX1_badName_5 : decode cX1_badName 5 = .ok (.iconst 3, 1) := by decide +kernel
theorem dX1_badName_6 : decode cX1_badName 6 = .ok (.if_icmp .le 7, 3) := by decide +kernel
theorem dX1_badName_9 : decode cX1_badName 9 = .ok (.iconst 1, 1) := by decide +kernel
theorem dX1_badName_10 : decode cX1_badName 10 = .ok (.goto 4, 3) := by decide +kernel
theorem dX1_badName_13 : decode cX1_badName 13 = .ok (.iconst 0, 1) := by decide +kernel
theorem dX1_badName_14 : decode cX1_badName 14 = .ok (.ireturn, 1) := by decide +kernel
abbrev cX1_leastFree : ByteArray := prog_3_method_8_code
def yX1_leastFree : MethodName := ⟨RX1, "leastFree", "(I)I"⟩
theorem dX1_leastFree_0 : decode cX1_leastFree 0 = .ok (.iconst 0, 1) := by decide +kernel
theorem dX1_leastFree_1 : decode cX1_leastFree 1 = .ok (.istore_n 2, 1) := by decide +kernel
theorem dX1_leastFree_2 : decode cX1_leastFree 2 = .ok (.iload_n 2, 1) := by decide +kernel
theorem dX1_leastFree_3 : decode cX1_leastFree 3 = .ok (.bipush 6, 2) := by decide +kernel
theorem dX1_leastFree_5 : decode cX1_leastFree 5 = .ok (.if_icmp .ge 25, 3) := by decide +kernel
theorem dX1_leastFree_8 : decode cX1_leastFree 8 = .ok (.aload_n 0, 1) := by decide +kernel
theorem dX1_leastFree_9 : decode cX1_leastFree 9 = .ok (.getfield 13, 3) := by decide +kernel
theorem dX1_leastFree_12 : decode cX1_leastFree 12 = .ok (.bipush 6, 2) := by decide +kernel
theorem dX1_leastFree_14 : decode cX1_leastFree 14 = .ok (.iload_n 1, 1) := by decide +kernel
theorem dX1_leastFree_15 : decode cX1_leastFree 15 = .ok (.imul, 1) := by decide +kernel
theorem dX1_leastFree_16 : decode cX1_leastFree 16 = .ok (.iload_n 2, 1) := by decide +kernel
theorem dX1_leastFree_17 : decode cX1_leastFree 17 = .ok (.iadd, 1) := by decide +kernel
theorem dX1_leastFree_18 : decode cX1_leastFree 18 = .ok (.iaload, 1) := by decide +kernel
theorem dX1_leastFree_19 : decode cX1_leastFree 19 = .ok (.ifCond .ge 5, 3) := by decide +kernel
theorem dX1_leastFree_22 : decode cX1_leastFree 22 = .ok (.iload_n 2, 1) := by decide +kernel
theorem dX1_leastFree_23 : decode cX1_leastFree 23 = .ok (.ireturn, 1) := by decide +kernel
theorem dX1_leastFree_24 : decode cX1_leastFree 24 = .ok (.iinc 2 1, 3) := by decide +kernel
theorem dX1_leastFree_27 : decode cX1_leastFree 27 = .ok (.goto (-25), 3) := by decide +kernel
theorem dX1_leastFree_30 : decode cX1_leastFree 30 = .ok (.iconst (-1), 1) := by decide +kernel
theorem dX1_leastFree_31 : decode cX1_leastFree 31 = .ok (.ireturn, 1) := by decide +kernel
abbrev cX1_newFile : ByteArray := prog_3_method_10_code
def yX1_newFile : MethodName := ⟨RX1, "newFile", "()I"⟩
theorem dX1_newFile_0 : decode cX1_newFile 0 = .ok (.iconst 0, 1) := by decide +kernel
theorem dX1_newFile_1 : decode cX1_newFile 1 = .ok (.istore_n 1, 1) := by decide +kernel
theorem dX1_newFile_2 : decode cX1_newFile 2 = .ok (.iload_n 1, 1) := by decide +kernel
theorem dX1_newFile_3 : decode cX1_newFile 3 = .ok (.bipush 28, 2) := by decide +kernel
theorem dX1_newFile_5 : decode cX1_newFile 5 = .ok (.if_icmp .ge 26, 3) := by decide +kernel
theorem dX1_newFile_8 : decode cX1_newFile 8 = .ok (.aload_n 0, 1) := by decide +kernel
theorem dX1_newFile_9 : decode cX1_newFile 9 = .ok (.iload_n 1, 1) := by decide +kernel
theorem dX1_newFile_10 : decode cX1_newFile 10 = .ok (.invokevirtual 56, 3) := by decide +kernel
theorem dX1_newFile_13 : decode cX1_newFile 13 = .ok (.ifCond .ne 12, 3) := by decide +kernel
theorem dX1_newFile_16 : decode cX1_newFile 16 = .ok (.aload_n 0, 1) := by decide +kernel
theorem dX1_newFile_17 : decode cX1_newFile 17 = .ok (.getfield 29, 3) := by decide +kernel
theorem dX1_newFile_20 : decode cX1_newFile 20 = .ok (.iload_n 1, 1) := by decide +kernel
theorem dX1_newFile_21 : decode cX1_newFile 21 = .ok (.iconst 0, 1) := by decide +kernel
theorem dX1_newFile_22 : decode cX1_newFile 22 = .ok (.iastore, 1) := by decide +kernel
theorem dX1_newFile_23 : decode cX1_newFile 23 = .ok (.iload_n 1, 1) := by decide +kernel
theorem dX1_newFile_24 : decode cX1_newFile 24 = .ok (.ireturn, 1) := by decide +kernel
theorem dX1_newFile_25 : decode cX1_newFile 25 = .ok (.iinc 1 1, 3) := by decide +kernel
theorem dX1_newFile_28 : decode cX1_newFile 28 = .ok (.goto (-26), 3) := by decide +kernel
theorem dX1_newFile_31 : decode cX1_newFile 31 = .ok (.iconst 0, 1) := by decide +kernel
theorem dX1_newFile_32 : decode cX1_newFile 32 = .ok (.ireturn, 1) := by decide +kernel
abbrev cX1_isFile : ByteArray := prog_3_method_7_code
def yX1_isFile : MethodName := ⟨RX1, "isFile", "(I)Z"⟩
theorem dX1_isFile_0 : decode cX1_isFile 0 = .ok (.iconst 0, 1) := by decide +kernel
theorem dX1_isFile_1 : decode cX1_isFile 1 = .ok (.istore_n 2, 1) := by decide +kernel
theorem dX1_isFile_2 : decode cX1_isFile 2 = .ok (.iload_n 2, 1) := by decide +kernel
theorem dX1_isFile_3 : decode cX1_isFile 3 = .ok (.iconst 4, 1) := by decide +kernel
theorem dX1_isFile_4 : decode cX1_isFile 4 = .ok (.if_icmp .ge 21, 3) := by decide +kernel
theorem dX1_isFile_7 : decode cX1_isFile 7 = .ok (.aload_n 0, 1) := by decide +kernel
theorem dX1_isFile_8 : decode cX1_isFile 8 = .ok (.getfield 26, 3) := by decide +kernel
theorem dX1_isFile_11 : decode cX1_isFile 11 = .ok (.iload_n 2, 1) := by decide +kernel
theorem dX1_isFile_12 : decode cX1_isFile 12 = .ok (.iaload, 1) := by decide +kernel
theorem dX1_isFile_13 : decode cX1_isFile 13 = .ok (.iload_n 1, 1) := by decide +kernel
theorem dX1_isFile_14 : decode cX1_isFile 14 = .ok (.if_icmp .ne 5, 3) := by decide +kernel
theorem dX1_isFile_17 : decode cX1_isFile 17 = .ok (.iconst 1, 1) := by decide +kernel
theorem dX1_isFile_18 : decode cX1_isFile 18 = .ok (.ireturn, 1) := by decide +kernel
theorem dX1_isFile_19 : decode cX1_isFile 19 = .ok (.iinc 2 1, 3) := by decide +kernel
theorem dX1_isFile_22 : decode cX1_isFile 22 = .ok (.goto (-20), 3) := by decide +kernel
theorem dX1_isFile_25 : decode cX1_isFile 25 = .ok (.aload_n 0, 1) := by decide +kernel
theorem dX1_isFile_26 : decode cX1_isFile 26 = .ok (.iconst 0, 1) := by decide +kernel
theorem dX1_isFile_27 : decode cX1_isFile 27 = .ok (.iload_n 1, 1) := by decide +kernel
theorem dX1_isFile_28 : decode cX1_isFile 28 = .ok (.invokevirtual 48, 3) := by decide +kernel
theorem dX1_isFile_31 : decode cX1_isFile 31 = .ok (.ireturn, 1) := by decide +kernel
abbrev cX1_hasOpening : ByteArray := prog_3_method_6_code
def yX1_hasOpening : MethodName := ⟨RX1, "hasOpening", "(II)Z"⟩
theorem dX1_hasOpening_0 : decode cX1_hasOpening 0 = .ok (.iconst 0, 1) := by decide +kernel
theorem dX1_hasOpening_1 : decode cX1_hasOpening 1 = .ok (.istore_n 3, 1) := by decide +kernel
theorem dX1_hasOpening_2 : decode cX1_hasOpening 2 = .ok (.iload_n 3, 1) := by decide +kernel
theorem dX1_hasOpening_3 : decode cX1_hasOpening 3 = .ok (.bipush 24, 2) := by decide +kernel
theorem dX1_hasOpening_5 : decode cX1_hasOpening 5 = .ok (.if_icmp .ge 73, 3) := by decide +kernel
theorem dX1_hasOpening_8 : decode cX1_hasOpening 8 = .ok (.iload_n 1, 1) := by decide +kernel
theorem dX1_hasOpening_9 : decode cX1_hasOpening 9 = .ok (.iconst 3, 1) := by decide +kernel
theorem dX1_hasOpening_10 : decode cX1_hasOpening 10 = .ok (.if_icmp .ne 20, 3) := by decide +kernel
theorem dX1_hasOpening_13 : decode cX1_hasOpening 13 = .ok (.aload_n 0, 1) := by decide +kernel
theorem dX1_hasOpening_14 : decode cX1_hasOpening 14 = .ok (.getfield 17, 3) := by decide +kernel
theorem dX1_hasOpening_17 : decode cX1_hasOpening 17 = .ok (.iload_n 3, 1) := by decide +kernel
theorem dX1_hasOpening_18 : decode cX1_hasOpening 18 = .ok (.iaload, 1) := by decide +kernel
theorem dX1_hasOpening_19 : decode cX1_hasOpening 19 = .ok (.ifCond .le 7, 3) := by decide +kernel
theorem dX1_hasOpening_22 : decode cX1_hasOpening 22 = .ok (.iconst 1, 1) := by decide +kernel
theorem dX1_hasOpening_23 : decode cX1_hasOpening 23 = .ok (.goto 22, 3) := by decide +kernel
theorem dX1_hasOpening_26 : decode cX1_hasOpening 26 = .ok (.iconst 0, 1) := by decide +kernel
theorem dX1_hasOpening_27 : decode cX1_hasOpening 27 = .ok (.goto 18, 3) := by decide +kernel
theorem dX1_hasOpening_30 : decode cX1_hasOpening 30 = .ok (.aload_n 0, 1) := by decide +kernel
theorem dX1_hasOpening_31 : decode cX1_hasOpening 31 = .ok (.getfield 17, 3) := by decide +kernel
theorem dX1_hasOpening_34 : decode cX1_hasOpening 34 = .ok (.iload_n 3, 1) := by decide +kernel
theorem dX1_hasOpening_35 : decode cX1_hasOpening 35 = .ok (.iaload, 1) := by decide +kernel
theorem dX1_hasOpening_36 : decode cX1_hasOpening 36 = .ok (.iload_n 1, 1) := by decide +kernel
theorem dX1_hasOpening_37 : decode cX1_hasOpening 37 = .ok (.if_icmp .ne 7, 3) := by decide +kernel
theorem dX1_hasOpening_40 : decode cX1_hasOpening 40 = .ok (.iconst 1, 1) := by decide +kernel
theorem dX1_hasOpening_41 : decode cX1_hasOpening 41 = .ok (.goto 4, 3) := by decide +kernel
theorem dX1_hasOpening_44 : decode cX1_hasOpening 44 = .ok (.iconst 0, 1) := by decide +kernel
theorem dX1_hasOpening_45 : decode cX1_hasOpening 45 = .ok (.istore 4, 2) := by decide +kernel
theorem dX1_hasOpening_47 : decode cX1_hasOpening 47 = .ok (.iload 4, 2) := by decide +kernel
theorem dX1_hasOpening_49 : decode cX1_hasOpening 49 = .ok (.ifCond .eq 23, 3) := by decide +kernel
theorem dX1_hasOpening_52 : decode cX1_hasOpening 52 = .ok (.aload_n 0, 1) := by decide +kernel
theorem dX1_hasOpening_53 : decode cX1_hasOpening 53 = .ok (.getfield 20, 3) := by decide +kernel
theorem dX1_hasOpening_56 : decode cX1_hasOpening 56 = .ok (.iload_n 3, 1) := by decide +kernel
theorem dX1_hasOpening_57 : decode cX1_hasOpening 57 = .ok (.iaload, 1) := by decide +kernel
theorem dX1_hasOpening_58 : decode cX1_hasOpening 58 = .ok (.iload_n 2, 1) := by decide +kernel
theorem dX1_hasOpening_59 : decode cX1_hasOpening 59 = .ok (.if_icmp .ne 13, 3) := by decide +kernel
theorem dX1_hasOpening_62 : decode cX1_hasOpening 62 = .ok (.aload_n 0, 1) := by decide +kernel
theorem dX1_hasOpening_63 : decode cX1_hasOpening 63 = .ok (.iload_n 3, 1) := by decide +kernel
theorem dX1_hasOpening_64 : decode cX1_hasOpening 64 = .ok (.invokevirtual 45, 3) := by decide +kernel
theorem dX1_hasOpening_67 : decode cX1_hasOpening 67 = .ok (.ifCond .eq 5, 3) := by decide +kernel
theorem dX1_hasOpening_70 : decode cX1_hasOpening 70 = .ok (.iconst 1, 1) := by decide +kernel
theorem dX1_hasOpening_71 : decode cX1_hasOpening 71 = .ok (.ireturn, 1) := by decide +kernel
theorem dX1_hasOpening_72 : decode cX1_hasOpening 72 = .ok (.iinc 3 1, 3) := by decide +kernel
theorem dX1_hasOpening_75 : decode cX1_hasOpening 75 = .ok (.goto (-73), 3) := by decide +kernel
theorem dX1_hasOpening_78 : decode cX1_hasOpening 78 = .ok (.iconst 0, 1) := by decide +kernel
theorem dX1_hasOpening_79 : decode cX1_hasOpening 79 = .ok (.ireturn, 1) := by decide +kernel
abbrev cX1_opened : ByteArray := prog_3_method_5_code
def yX1_opened : MethodName := ⟨RX1, "opened", "(I)Z"⟩
theorem dX1_opened_0 : decode cX1_opened 0 = .ok (.iconst 0, 1) := by decide +kernel
theorem dX1_opened_1 : decode cX1_opened 1 = .ok (.istore_n 2, 1) := by decide +kernel
theorem dX1_opened_2 : decode cX1_opened 2 = .ok (.iload_n 2, 1) := by decide +kernel
theorem dX1_opened_3 : decode cX1_opened 3 = .ok (.bipush 24, 2) := by decide +kernel
theorem dX1_opened_5 : decode cX1_opened 5 = .ok (.if_icmp .ge 21, 3) := by decide +kernel
theorem dX1_opened_8 : decode cX1_opened 8 = .ok (.aload_n 0, 1) := by decide +kernel
theorem dX1_opened_9 : decode cX1_opened 9 = .ok (.getfield 13, 3) := by decide +kernel
theorem dX1_opened_12 : decode cX1_opened 12 = .ok (.iload_n 2, 1) := by decide +kernel
theorem dX1_opened_13 : decode cX1_opened 13 = .ok (.iaload, 1) := by decide +kernel
theorem dX1_opened_14 : decode cX1_opened 14 = .ok (.iload_n 1, 1) := by decide +kernel
theorem dX1_opened_15 : decode cX1_opened 15 = .ok (.if_icmp .ne 5, 3) := by decide +kernel
theorem dX1_opened_18 : decode cX1_opened 18 = .ok (.iconst 1, 1) := by decide +kernel
theorem dX1_opened_19 : decode cX1_opened 19 = .ok (.ireturn, 1) := by decide +kernel
theorem dX1_opened_20 : decode cX1_opened 20 = .ok (.iinc 2 1, 3) := by decide +kernel
theorem dX1_opened_23 : decode cX1_opened 23 = .ok (.goto (-21), 3) := by decide +kernel
theorem dX1_opened_26 : decode cX1_opened 26 = .ok (.iconst 0, 1) := by decide +kernel
theorem dX1_opened_27 : decode cX1_opened 27 = .ok (.ireturn, 1) := by decide +kernel
abbrev cX1_lead : ByteArray := prog_3_method_9_code
def yX1_lead : MethodName := ⟨RX1, "lead", "(III)I"⟩
theorem dX1_lead_0 : decode cX1_lead 0 = .ok (.aload_n 0, 1) := by decide +kernel
theorem dX1_lead_1 : decode cX1_lead 1 = .ok (.iload_n 1, 1) := by decide +kernel
theorem dX1_lead_2 : decode cX1_lead 2 = .ok (.invokevirtual 52, 3) := by decide +kernel
theorem dX1_lead_5 : decode cX1_lead 5 = .ok (.istore 4, 2) := by decide +kernel
theorem dX1_lead_7 : decode cX1_lead 7 = .ok (.iconst 0, 1) := by decide +kernel
theorem dX1_lead_8 : decode cX1_lead 8 = .ok (.istore 5, 2) := by decide +kernel
theorem dX1_lead_10 : decode cX1_lead 10 = .ok (.iload 5, 2) := by decide +kernel
theorem dX1_lead_12 : decode cX1_lead 12 = .ok (.bipush 24, 2) := by decide +kernel
theorem dX1_lead_14 : decode cX1_lead 14 = .ok (.if_icmp .ge 59, 3) := by decide +kernel
theorem dX1_lead_17 : decode cX1_lead 17 = .ok (.aload_n 0, 1) := by decide +kernel
theorem dX1_lead_18 : decode cX1_lead 18 = .ok (.iload 5, 2) := by decide +kernel
theorem dX1_lead_20 : decode cX1_lead 20 = .ok (.invokevirtual 45, 3) := by decide +kernel
theorem dX1_lead_23 : decode cX1_lead 23 = .ok (.ifCond .ne 44, 3) := by decide +kernel
theorem dX1_lead_26 : decode cX1_lead 26 = .ok (.aload_n 0, 1) := by decide +kernel
theorem dX1_lead_27 : decode cX1_lead 27 = .ok (.getfield 17, 3) := by decide +kernel
theorem dX1_lead_30 : decode cX1_lead 30 = .ok (.iload 5, 2) := by decide +kernel
theorem dX1_lead_32 : decode cX1_lead 32 = .ok (.iload_n 2, 1) := by decide +kernel
theorem dX1_lead_33 : decode cX1_lead 33 = .ok (.iastore, 1) := by decide +kernel
theorem dX1_lead_34 : decode cX1_lead 34 = .ok (.aload_n 0, 1) := by decide +kernel
theorem dX1_lead_35 : decode cX1_lead 35 = .ok (.getfield 20, 3) := by decide +kernel
theorem dX1_lead_38 : decode cX1_lead 38 = .ok (.iload 5, 2) := by decide +kernel
theorem dX1_lead_40 : decode cX1_lead 40 = .ok (.iload_n 3, 1) := by decide +kernel
theorem dX1_lead_41 : decode cX1_lead 41 = .ok (.iastore, 1) := by decide +kernel
theorem dX1_lead_42 : decode cX1_lead 42 = .ok (.aload_n 0, 1) := by decide +kernel
theorem dX1_lead_43 : decode cX1_lead 43 = .ok (.getfield 23, 3) := by decide +kernel
theorem dX1_lead_46 : decode cX1_lead 46 = .ok (.iload 5, 2) := by decide +kernel
theorem dX1_lead_48 : decode cX1_lead 48 = .ok (.iconst 0, 1) := by decide +kernel
theorem dX1_lead_49 : decode cX1_lead 49 = .ok (.iastore, 1) := by decide +kernel
theorem dX1_lead_50 : decode cX1_lead 50 = .ok (.aload_n 0, 1) := by decide +kernel
theorem dX1_lead_51 : decode cX1_lead 51 = .ok (.getfield 13, 3) := by decide +kernel
theorem dX1_lead_54 : decode cX1_lead 54 = .ok (.bipush 6, 2) := by decide +kernel
theorem dX1_lead_56 : decode cX1_lead 56 = .ok (.iload_n 1, 1) := by decide +kernel
theorem dX1_lead_57 : decode cX1_lead 57 = .ok (.imul, 1) := by decide +kernel
theorem dX1_lead_58 : decode cX1_lead 58 = .ok (.iload 4, 2) := by decide +kernel
theorem dX1_lead_60 : decode cX1_lead 60 = .ok (.iadd, 1) := by decide +kernel
theorem dX1_lead_61 : decode cX1_lead 61 = .ok (.iload 5, 2) := by decide +kernel
theorem dX1_lead_63 : decode cX1_lead 63 = .ok (.iastore, 1) := by decide +kernel
theorem dX1_lead_64 : decode cX1_lead 64 = .ok (.iload 4, 2) := by decide +kernel
theorem dX1_lead_66 : decode cX1_lead 66 = .ok (.ireturn, 1) := by decide +kernel
theorem dX1_lead_67 : decode cX1_lead 67 = .ok (.iinc 5 1, 3) := by decide +kernel
theorem dX1_lead_70 : decode cX1_lead 70 = .ok (.goto (-60), 3) := by decide +kernel
theorem dX1_lead_73 : decode cX1_lead 73 = .ok (.iload 4, 2) := by decide +kernel
theorem dX1_lead_75 : decode cX1_lead 75 = .ok (.ireturn, 1) := by decide +kernel
abbrev cX1_pipe : ByteArray := prog_3_method_13_code
def yX1_pipe : MethodName := ⟨RX1, "pipe", "(I)I"⟩
theorem dX1_pipe_0 : decode cX1_pipe 0 = .ok (.aload_n 0, 1) := by decide +kernel
theorem dX1_pipe_1 : decode cX1_pipe 1 = .ok (.iload_n 1, 1) := by decide +kernel
theorem dX1_pipe_2 : decode cX1_pipe 2 = .ok (.invokevirtual 41, 3) := by decide +kernel
theorem dX1_pipe_5 : decode cX1_pipe 5 = .ok (.ifCond .eq 5, 3) := by decide +kernel
theorem dX1_pipe_8 : decode cX1_pipe 8 = .ok (.iconst (-1), 1) := by decide +kernel
theorem dX1_pipe_9 : decode cX1_pipe 9 = .ok (.ireturn, 1) := by decide +kernel
theorem dX1_pipe_10 : decode cX1_pipe 10 = .ok (.aload_n 0, 1) := by decide +kernel
theorem dX1_pipe_11 : decode cX1_pipe 11 = .ok (.iload_n 1, 1) := by decide +kernel
theorem dX1_pipe_12 : decode cX1_pipe 12 = .ok (.invokevirtual 70, 3) := by decide +kernel
theorem dX1_pipe_15 : decode cX1_pipe 15 = .ok (.iconst 2, 1) := by decide +kernel
theorem dX1_pipe_16 : decode cX1_pipe 16 = .ok (.if_icmp .ge 6, 3) := by decide +kernel
theorem dX1_pipe_19 : decode cX1_pipe 19 = .ok (.bipush (-2), 2) := by decide +kernel
theorem dX1_pipe_21 : decode cX1_pipe 21 = .ok (.ireturn, 1) := by decide +kernel
theorem dX1_pipe_22 : decode cX1_pipe 22 = .ok (.iconst 0, 1) := by decide +kernel
theorem dX1_pipe_23 : decode cX1_pipe 23 = .ok (.istore_n 2, 1) := by decide +kernel
theorem dX1_pipe_24 : decode cX1_pipe 24 = .ok (.iload_n 2, 1) := by decide +kernel
theorem dX1_pipe_25 : decode cX1_pipe 25 = .ok (.bipush 23, 2) := by decide +kernel
theorem dX1_pipe_27 : decode cX1_pipe 27 = .ok (.if_icmp .ge 18, 3) := by decide +kernel
theorem dX1_pipe_30 : decode cX1_pipe 30 = .ok (.aload_n 0, 1) := by decide +kernel
theorem dX1_pipe_31 : decode cX1_pipe 31 = .ok (.iconst 3, 1) := by decide +kernel
theorem dX1_pipe_32 : decode cX1_pipe 32 = .ok (.iload_n 2, 1) := by decide +kernel
theorem dX1_pipe_33 : decode cX1_pipe 33 = .ok (.invokevirtual 48, 3) := by decide +kernel
theorem dX1_pipe_36 : decode cX1_pipe 36 = .ok (.ifCond .eq 9, 3) := by decide +kernel
theorem dX1_pipe_39 : decode cX1_pipe 39 = .ok (.iinc 2 1, 3) := by decide +kernel
theorem dX1_pipe_42 : decode cX1_pipe 42 = .ok (.goto (-18), 3) := by decide +kernel
theorem dX1_pipe_45 : decode cX1_pipe 45 = .ok (.aload_n 0, 1) := by decide +kernel
theorem dX1_pipe_46 : decode cX1_pipe 46 = .ok (.getfield 35, 3) := by decide +kernel
theorem dX1_pipe_49 : decode cX1_pipe 49 = .ok (.iload_n 2, 1) := by decide +kernel
theorem dX1_pipe_50 : decode cX1_pipe 50 = .ok (.iconst 0, 1) := by decide +kernel
theorem dX1_pipe_51 : decode cX1_pipe 51 = .ok (.iastore, 1) := by decide +kernel
theorem dX1_pipe_52 : decode cX1_pipe 52 = .ok (.aload_n 0, 1) := by decide +kernel
theorem dX1_pipe_53 : decode cX1_pipe 53 = .ok (.iload_n 1, 1) := by decide +kernel
theorem dX1_pipe_54 : decode cX1_pipe 54 = .ok (.iconst 1, 1) := by decide +kernel
theorem dX1_pipe_55 : decode cX1_pipe 55 = .ok (.iload_n 2, 1) := by decide +kernel
theorem dX1_pipe_56 : decode cX1_pipe 56 = .ok (.invokevirtual 66, 3) := by decide +kernel
theorem dX1_pipe_59 : decode cX1_pipe 59 = .ok (.istore_n 3, 1) := by decide +kernel
theorem dX1_pipe_60 : decode cX1_pipe 60 = .ok (.aload_n 0, 1) := by decide +kernel
theorem dX1_pipe_61 : decode cX1_pipe 61 = .ok (.iload_n 1, 1) := by decide +kernel
theorem dX1_pipe_62 : decode cX1_pipe 62 = .ok (.iconst 2, 1) := by decide +kernel
theorem dX1_pipe_63 : decode cX1_pipe 63 = .ok (.iload_n 2, 1) := by decide +kernel
theorem dX1_pipe_64 : decode cX1_pipe 64 = .ok (.invokevirtual 66, 3) := by decide +kernel
theorem dX1_pipe_67 : decode cX1_pipe 67 = .ok (.istore 4, 2) := by decide +kernel
theorem dX1_pipe_69 : decode cX1_pipe 69 = .ok (.bipush 8, 2) := by decide +kernel
theorem dX1_pipe_71 : decode cX1_pipe 71 = .ok (.iload_n 3, 1) := by decide +kernel
theorem dX1_pipe_72 : decode cX1_pipe 72 = .ok (.imul, 1) := by decide +kernel
theorem dX1_pipe_73 : decode cX1_pipe 73 = .ok (.iload 4, 2) := by decide +kernel
theorem dX1_pipe_75 : decode cX1_pipe 75 = .ok (.iadd, 1) := by decide +kernel
theorem dX1_pipe_76 : decode cX1_pipe 76 = .ok (.ireturn, 1) := by decide +kernel
abbrev cX1_freeDescriptors : ByteArray := prog_3_method_12_code
def yX1_freeDescriptors : MethodName := ⟨RX1, "freeDescriptors", "(I)I"⟩
theorem dX1_freeDescriptors_0 : decode cX1_freeDescriptors 0 = .ok (.iconst 0, 1) := by decide +kernel
theorem dX1_freeDescriptors_1 : decode cX1_freeDescriptors 1 = .ok (.istore_n 2, 1) := by decide +kernel
theorem dX1_freeDescriptors_2 : decode cX1_freeDescriptors 2 = .ok (.iconst 0, 1) := by decide +kernel
theorem dX1_freeDescriptors_3 : decode cX1_freeDescriptors 3 = .ok (.istore_n 3, 1) := by decide +kernel
theorem dX1_freeDescriptors_4 : decode cX1_freeDescriptors 4 = .ok (.iload_n 3, 1) := by decide +kernel
theorem dX1_freeDescriptors_5 : decode cX1_freeDescriptors 5 = .ok (.bipush 6, 2) := by decide +kernel
theorem dX1_freeDescriptors_7 : decode cX1_freeDescriptors 7 = .ok (.if_icmp .ge 26, 3) := by decide +kernel
theorem dX1_freeDescriptors_10 : decode cX1_freeDescriptors 10 = .ok (.aload_n 0, 1) := by decide +kernel
theorem dX1_freeDescriptors_11 : decode cX1_freeDescriptors 11 = .ok (.getfield 13, 3) := by decide +kernel
theorem dX1_freeDescriptors_14 : decode cX1_freeDescriptors 14 = .ok (.bipush 6, 2) := by decide +kernel
theorem dX1_freeDescriptors_16 : decode cX1_freeDescriptors 16 = .ok (.iload_n 1, 1) := by decide +kernel
theorem dX1_freeDescriptors_17 : decode cX1_freeDescriptors 17 = .ok (.imul, 1) := by decide +kernel
theorem dX1_freeDescriptors_18 : decode cX1_freeDescriptors 18 = .ok (.iload_n 3, 1) := by decide +kernel
theorem dX1_freeDescriptors_19 : decode cX1_freeDescriptors 19 = .ok (.iadd, 1) := by decide +kernel
theorem dX1_freeDescriptors_20 : decode cX1_freeDescriptors 20 = .ok (.iaload, 1) := by decide +kernel
theorem dX1_freeDescriptors_21 : decode cX1_freeDescriptors 21 = .ok (.ifCond .ge 6, 3) := by decide +kernel
theorem dX1_freeDescriptors_24 : decode cX1_freeDescriptors 24 = .ok (.iinc 2 1, 3) := by decide +kernel
theorem dX1_freeDescriptors_27 : decode cX1_freeDescriptors 27 = .ok (.iinc 3 1, 3) := by decide +kernel
theorem dX1_freeDescriptors_30 : decode cX1_freeDescriptors 30 = .ok (.goto (-26), 3) := by decide +kernel
theorem dX1_freeDescriptors_33 : decode cX1_freeDescriptors 33 = .ok (.iload_n 2, 1) := by decide +kernel
theorem dX1_freeDescriptors_34 : decode cX1_freeDescriptors 34 = .ok (.ireturn, 1) := by decide +kernel
abbrev cX1_dup : ByteArray := prog_3_method_14_code
def yX1_dup : MethodName := ⟨RX1, "dup", "(II)I"⟩
theorem dX1_dup_0 : decode cX1_dup 0 = .ok (.aload_n 0, 1) := by decide +kernel
theorem dX1_dup_1 : decode cX1_dup 1 = .ok (.iload_n 1, 1) := by decide +kernel
theorem dX1_dup_2 : decode cX1_dup 2 = .ok (.iload_n 2, 1) := by decide +kernel
theorem dX1_dup_3 : decode cX1_dup 3 = .ok (.invokevirtual 73, 3) := by decide +kernel
theorem dX1_dup_6 : decode cX1_dup 6 = .ok (.ifCond .eq 5, 3) := by decide +kernel
theorem dX1_dup_9 : decode cX1_dup 9 = .ok (.iconst (-1), 1) := by decide +kernel
theorem dX1_dup_10 : decode cX1_dup 10 = .ok (.ireturn, 1) := by decide +kernel
theorem dX1_dup_11 : decode cX1_dup 11 = .ok (.aload_n 0, 1) := by decide +kernel
theorem dX1_dup_12 : decode cX1_dup 12 = .ok (.iload_n 1, 1) := by decide +kernel
theorem dX1_dup_13 : decode cX1_dup 13 = .ok (.invokevirtual 52, 3) := by decide +kernel
theorem dX1_dup_16 : decode cX1_dup 16 = .ok (.istore_n 3, 1) := by decide +kernel
theorem dX1_dup_17 : decode cX1_dup 17 = .ok (.iload_n 3, 1) := by decide +kernel
theorem dX1_dup_18 : decode cX1_dup 18 = .ok (.ifCond .ge 6, 3) := by decide +kernel
theorem dX1_dup_21 : decode cX1_dup 21 = .ok (.bipush (-2), 2) := by decide +kernel
theorem dX1_dup_23 : decode cX1_dup 23 = .ok (.ireturn, 1) := by decide +kernel
theorem dX1_dup_24 : decode cX1_dup 24 = .ok (.aload_n 0, 1) := by decide +kernel
theorem dX1_dup_25 : decode cX1_dup 25 = .ok (.getfield 13, 3) := by decide +kernel
theorem dX1_dup_28 : decode cX1_dup 28 = .ok (.bipush 6, 2) := by decide +kernel
theorem dX1_dup_30 : decode cX1_dup 30 = .ok (.iload_n 1, 1) := by decide +kernel
theorem dX1_dup_31 : decode cX1_dup 31 = .ok (.imul, 1) := by decide +kernel
theorem dX1_dup_32 : decode cX1_dup 32 = .ok (.iload_n 3, 1) := by decide +kernel
theorem dX1_dup_33 : decode cX1_dup 33 = .ok (.iadd, 1) := by decide +kernel
theorem dX1_dup_34 : decode cX1_dup 34 = .ok (.aload_n 0, 1) := by decide +kernel
theorem dX1_dup_35 : decode cX1_dup 35 = .ok (.getfield 13, 3) := by decide +kernel
theorem dX1_dup_38 : decode cX1_dup 38 = .ok (.bipush 6, 2) := by decide +kernel
theorem dX1_dup_40 : decode cX1_dup 40 = .ok (.iload_n 1, 1) := by decide +kernel
theorem dX1_dup_41 : decode cX1_dup 41 = .ok (.imul, 1) := by decide +kernel
theorem dX1_dup_42 : decode cX1_dup 42 = .ok (.iload_n 2, 1) := by decide +kernel
theorem dX1_dup_43 : decode cX1_dup 43 = .ok (.iadd, 1) := by decide +kernel
theorem dX1_dup_44 : decode cX1_dup 44 = .ok (.iaload, 1) := by decide +kernel
theorem dX1_dup_45 : decode cX1_dup 45 = .ok (.iastore, 1) := by decide +kernel
theorem dX1_dup_46 : decode cX1_dup 46 = .ok (.iload_n 3, 1) := by decide +kernel
theorem dX1_dup_47 : decode cX1_dup 47 = .ok (.ireturn, 1) := by decide +kernel
abbrev cX1_free : ByteArray := prog_3_method_3_code
def yX1_free : MethodName := ⟨RX1, "free", "(II)Z"⟩
theorem dX1_free_0 : decode cX1_free 0 = .ok (.aload_n 0, 1) := by decide +kernel
theorem dX1_free_1 : decode cX1_free 1 = .ok (.iload_n 1, 1) := by decide +kernel
theorem dX1_free_2 : decode cX1_free 2 = .ok (.invokevirtual 41, 3) := by decide +kernel
theorem dX1_free_5 : decode cX1_free 5 = .ok (.ifCond .ne 26, 3) := by decide +kernel
theorem dX1_free_8 : decode cX1_free 8 = .ok (.iload_n 2, 1) := by decide +kernel
theorem dX1_free_9 : decode cX1_free 9 = .ok (.ifCond .lt 22, 3) := by decide +kernel
theorem dX1_free_12 : decode cX1_free 12 = .ok (.iload_n 2, 1) := by decide +kernel
theorem dX1_free_13 : decode cX1_free 13 = .ok (.iconst 5, 1) := by decide +kernel
theorem dX1_free_14 : decode cX1_free 14 = .ok (.if_icmp .gt 17, 3) := by decide +kernel
theorem dX1_free_17 : decode cX1_free 17 = .ok (.aload_n 0, 1) := by decide +kernel
theorem dX1_free_18 : decode cX1_free 18 = .ok (.getfield 13, 3) := by decide +kernel
theorem dX1_free_21 : decode cX1_free 21 = .ok (.bipush 6, 2) := by decide +kernel
theorem dX1_free_23 : decode cX1_free 23 = .ok (.iload_n 1, 1) := by decide +kernel
theorem dX1_free_24 : decode cX1_free 24 = .ok (.imul, 1) := by decide +kernel
theorem dX1_free_25 : decode cX1_free 25 = .ok (.iload_n 2, 1) := by decide +kernel
theorem dX1_free_26 : decode cX1_free 26 = .ok (.iadd, 1) := by decide +kernel
theorem dX1_free_27 : decode cX1_free 27 = .ok (.iaload, 1) := by decide +kernel
theorem dX1_free_28 : decode cX1_free 28 = .ok (.ifCond .ge 7, 3) := by decide +kernel
theorem dX1_free_31 : decode cX1_free 31 = .ok (.iconst 1, 1) := by decide +kernel
theorem dX1_free_32 : decode cX1_free 32 = .ok (.goto 4, 3) := by decide +kernel
theorem dX1_free_35 : decode cX1_free 35 = .ok (.iconst 0, 1) := by decide +kernel
theorem dX1_free_36 : decode cX1_free 36 = .ok (.ireturn, 1) := by decide +kernel
abbrev cX1_close : ByteArray := prog_3_method_15_code
def yX1_close : MethodName := ⟨RX1, "close", "(II)I"⟩
theorem dX1_close_0 : decode cX1_close 0 = .ok (.aload_n 0, 1) := by decide +kernel
theorem dX1_close_1 : decode cX1_close 1 = .ok (.iload_n 1, 1) := by decide +kernel
theorem dX1_close_2 : decode cX1_close 2 = .ok (.iload_n 2, 1) := by decide +kernel
theorem dX1_close_3 : decode cX1_close 3 = .ok (.invokevirtual 73, 3) := by decide +kernel
theorem dX1_close_6 : decode cX1_close 6 = .ok (.ifCond .eq 5, 3) := by decide +kernel
theorem dX1_close_9 : decode cX1_close 9 = .ok (.iconst (-1), 1) := by decide +kernel
theorem dX1_close_10 : decode cX1_close 10 = .ok (.ireturn, 1) := by decide +kernel
theorem dX1_close_11 : decode cX1_close 11 = .ok (.aload_n 0, 1) := by decide +kernel
theorem dX1_close_12 : decode cX1_close 12 = .ok (.getfield 13, 3) := by decide +kernel
theorem dX1_close_15 : decode cX1_close 15 = .ok (.bipush 6, 2) := by decide +kernel
theorem dX1_close_17 : decode cX1_close 17 = .ok (.iload_n 1, 1) := by decide +kernel
theorem dX1_close_18 : decode cX1_close 18 = .ok (.imul, 1) := by decide +kernel
theorem dX1_close_19 : decode cX1_close 19 = .ok (.iload_n 2, 1) := by decide +kernel
theorem dX1_close_20 : decode cX1_close 20 = .ok (.iadd, 1) := by decide +kernel
theorem dX1_close_21 : decode cX1_close 21 = .ok (.iconst (-1), 1) := by decide +kernel
theorem dX1_close_22 : decode cX1_close 22 = .ok (.iastore, 1) := by decide +kernel
theorem dX1_close_23 : decode cX1_close 23 = .ok (.iconst 0, 1) := by decide +kernel
theorem dX1_close_24 : decode cX1_close 24 = .ok (.ireturn, 1) := by decide +kernel
abbrev cX1_fork : ByteArray := prog_3_method_16_code
def yX1_fork : MethodName := ⟨RX1, "fork", "(I)I"⟩
theorem dX1_fork_0 : decode cX1_fork 0 = .ok (.aload_n 0, 1) := by decide +kernel
theorem dX1_fork_1 : decode cX1_fork 1 = .ok (.iload_n 1, 1) := by decide +kernel
theorem dX1_fork_2 : decode cX1_fork 2 = .ok (.invokevirtual 41, 3) := by decide +kernel
theorem dX1_fork_5 : decode cX1_fork 5 = .ok (.ifCond .eq 5, 3) := by decide +kernel
theorem dX1_fork_8 : decode cX1_fork 8 = .ok (.iconst (-1), 1) := by decide +kernel
theorem dX1_fork_9 : decode cX1_fork 9 = .ok (.ireturn, 1) := by decide +kernel
theorem dX1_fork_10 : decode cX1_fork 10 = .ok (.iconst 0, 1) := by decide +kernel
theorem dX1_fork_11 : decode cX1_fork 11 = .ok (.istore_n 2, 1) := by decide +kernel
theorem dX1_fork_12 : decode cX1_fork 12 = .ok (.iload_n 2, 1) := by decide +kernel
theorem dX1_fork_13 : decode cX1_fork 13 = .ok (.iconst 4, 1) := by decide +kernel
theorem dX1_fork_14 : decode cX1_fork 14 = .ok (.if_icmp .ge 63, 3) := by decide +kernel
theorem dX1_fork_17 : decode cX1_fork 17 = .ok (.aload_n 0, 1) := by decide +kernel
theorem dX1_fork_18 : decode cX1_fork 18 = .ok (.getfield 7, 3) := by decide +kernel
theorem dX1_fork_21 : decode cX1_fork 21 = .ok (.iload_n 2, 1) := by decide +kernel
theorem dX1_fork_22 : decode cX1_fork 22 = .ok (.baload, 1) := by decide +kernel
theorem dX1_fork_23 : decode cX1_fork 23 = .ok (.ifCond .ne 48, 3) := by decide +kernel
theorem dX1_fork_26 : decode cX1_fork 26 = .ok (.aload_n 0, 1) := by decide +kernel
theorem dX1_fork_27 : decode cX1_fork 27 = .ok (.getfield 7, 3) := by decide +kernel
theorem dX1_fork_30 : decode cX1_fork 30 = .ok (.iload_n 2, 1) := by decide +kernel
theorem dX1_fork_31 : decode cX1_fork 31 = .ok (.iconst 1, 1) := by decide +kernel
theorem dX1_fork_32 : decode cX1_fork 32 = .ok (.bastore, 1) := by decide +kernel
theorem dX1_fork_33 : decode cX1_fork 33 = .ok (.iconst 0, 1) := by decide +kernel
theorem dX1_fork_34 : decode cX1_fork 34 = .ok (.istore_n 3, 1) := by decide +kernel
theorem dX1_fork_35 : decode cX1_fork 35 = .ok (.iload_n 3, 1) := by decide +kernel
theorem dX1_fork_36 : decode cX1_fork 36 = .ok (.bipush 6, 2) := by decide +kernel
theorem dX1_fork_38 : decode cX1_fork 38 = .ok (.if_icmp .ge 31, 3) := by decide +kernel
theorem dX1_fork_41 : decode cX1_fork 41 = .ok (.aload_n 0, 1) := by decide +kernel
theorem dX1_fork_42 : decode cX1_fork 42 = .ok (.getfield 13, 3) := by decide +kernel
theorem dX1_fork_45 : decode cX1_fork 45 = .ok (.bipush 6, 2) := by decide +kernel
theorem dX1_fork_47 : decode cX1_fork 47 = .ok (.iload_n 2, 1) := by decide +kernel
theorem dX1_fork_48 : decode cX1_fork 48 = .ok (.imul, 1) := by decide +kernel
theorem dX1_fork_49 : decode cX1_fork 49 = .ok (.iload_n 3, 1) := by decide +kernel
theorem dX1_fork_50 : decode cX1_fork 50 = .ok (.iadd, 1) := by decide +kernel
theorem dX1_fork_51 : decode cX1_fork 51 = .ok (.aload_n 0, 1) := by decide +kernel
theorem dX1_fork_52 : decode cX1_fork 52 = .ok (.getfield 13, 3) := by decide +kernel
theorem dX1_fork_55 : decode cX1_fork 55 = .ok (.bipush 6, 2) := by decide +kernel
theorem dX1_fork_57 : decode cX1_fork 57 = .ok (.iload_n 1, 1) := by decide +kernel
theorem dX1_fork_58 : decode cX1_fork 58 = .ok (.imul, 1) := by decide +kernel
theorem dX1_fork_59 : decode cX1_fork 59 = .ok (.iload_n 3, 1) := by decide +kernel
theorem dX1_fork_60 : decode cX1_fork 60 = .ok (.iadd, 1) := by decide +kernel
theorem dX1_fork_61 : decode cX1_fork 61 = .ok (.iaload, 1) := by decide +kernel
theorem dX1_fork_62 : decode cX1_fork 62 = .ok (.iastore, 1) := by decide +kernel
theorem dX1_fork_63 : decode cX1_fork 63 = .ok (.iinc 3 1, 3) := by decide +kernel
theorem dX1_fork_66 : decode cX1_fork 66 = .ok (.goto (-31), 3) := by decide +kernel
theorem dX1_fork_69 : decode cX1_fork 69 = .ok (.iload_n 2, 1) := by decide +kernel
theorem dX1_fork_70 : decode cX1_fork 70 = .ok (.ireturn, 1) := by decide +kernel
theorem dX1_fork_71 : decode cX1_fork 71 = .ok (.iinc 2 1, 3) := by decide +kernel
theorem dX1_fork_74 : decode cX1_fork 74 = .ok (.goto (-62), 3) := by decide +kernel
theorem dX1_fork_77 : decode cX1_fork 77 = .ok (.bipush (-2), 2) := by decide +kernel
theorem dX1_fork_79 : decode cX1_fork 79 = .ok (.ireturn, 1) := by decide +kernel
abbrev cX1_exit : ByteArray := prog_3_method_17_code
def yX1_exit : MethodName := ⟨RX1, "exit", "(I)I"⟩
theorem dX1_exit_0 : decode cX1_exit 0 = .ok (.aload_n 0, 1) := by decide +kernel
theorem dX1_exit_1 : decode cX1_exit 1 = .ok (.iload_n 1, 1) := by decide +kernel
theorem dX1_exit_2 : decode cX1_exit 2 = .ok (.invokevirtual 41, 3) := by decide +kernel
theorem dX1_exit_5 : decode cX1_exit 5 = .ok (.ifCond .eq 5, 3) := by decide +kernel
theorem dX1_exit_8 : decode cX1_exit 8 = .ok (.iconst (-1), 1) := by decide +kernel
theorem dX1_exit_9 : decode cX1_exit 9 = .ok (.ireturn, 1) := by decide +kernel
theorem dX1_exit_10 : decode cX1_exit 10 = .ok (.iconst 0, 1) := by decide +kernel
theorem dX1_exit_11 : decode cX1_exit 11 = .ok (.istore_n 2, 1) := by decide +kernel
theorem dX1_exit_12 : decode cX1_exit 12 = .ok (.iconst 0, 1) := by decide +kernel
theorem dX1_exit_13 : decode cX1_exit 13 = .ok (.istore_n 3, 1) := by decide +kernel
theorem dX1_exit_14 : decode cX1_exit 14 = .ok (.iload_n 3, 1) := by decide +kernel
theorem dX1_exit_15 : decode cX1_exit 15 = .ok (.iconst 4, 1) := by decide +kernel
theorem dX1_exit_16 : decode cX1_exit 16 = .ok (.if_icmp .ge 26, 3) := by decide +kernel
theorem dX1_exit_19 : decode cX1_exit 19 = .ok (.aload_n 0, 1) := by decide +kernel
theorem dX1_exit_20 : decode cX1_exit 20 = .ok (.getfield 7, 3) := by decide +kernel
theorem dX1_exit_23 : decode cX1_exit 23 = .ok (.iload_n 3, 1) := by decide +kernel
theorem dX1_exit_24 : decode cX1_exit 24 = .ok (.baload, 1) := by decide +kernel
theorem dX1_exit_25 : decode cX1_exit 25 = .ok (.ifCond .eq 11, 3) := by decide +kernel
theorem dX1_exit_28 : decode cX1_exit 28 = .ok (.iload_n 3, 1) := by decide +kernel
theorem dX1_exit_29 : decode cX1_exit 29 = .ok (.iload_n 1, 1) := by decide +kernel
theorem dX1_exit_30 : decode cX1_exit 30 = .ok (.if_icmp .eq 6, 3) := by decide +kernel
theorem dX1_exit_33 : decode cX1_exit 33 = .ok (.iinc 2 1, 3) := by decide +kernel
theorem dX1_exit_36 : decode cX1_exit 36 = .ok (.iinc 3 1, 3) := by decide +kernel
theorem dX1_exit_39 : decode cX1_exit 39 = .ok (.goto (-25), 3) := by decide +kernel
theorem dX1_exit_42 : decode cX1_exit 42 = .ok (.iload_n 2, 1) := by decide +kernel
theorem dX1_exit_43 : decode cX1_exit 43 = .ok (.ifCond .ne 5, 3) := by decide +kernel
theorem dX1_exit_46 : decode cX1_exit 46 = .ok (.iconst (-1), 1) := by decide +kernel
theorem dX1_exit_47 : decode cX1_exit 47 = .ok (.ireturn, 1) := by decide +kernel
theorem dX1_exit_48 : decode cX1_exit 48 = .ok (.aload_n 0, 1) := by decide +kernel
theorem dX1_exit_49 : decode cX1_exit 49 = .ok (.getfield 7, 3) := by decide +kernel
theorem dX1_exit_52 : decode cX1_exit 52 = .ok (.iload_n 1, 1) := by decide +kernel
theorem dX1_exit_53 : decode cX1_exit 53 = .ok (.iconst 0, 1) := by decide +kernel
theorem dX1_exit_54 : decode cX1_exit 54 = .ok (.bastore, 1) := by decide +kernel
theorem dX1_exit_55 : decode cX1_exit 55 = .ok (.iconst 0, 1) := by decide +kernel
theorem dX1_exit_56 : decode cX1_exit 56 = .ok (.istore_n 3, 1) := by decide +kernel
theorem dX1_exit_57 : decode cX1_exit 57 = .ok (.iload_n 3, 1) := by decide +kernel
theorem dX1_exit_58 : decode cX1_exit 58 = .ok (.bipush 6, 2) := by decide +kernel
theorem dX1_exit_60 : decode cX1_exit 60 = .ok (.if_icmp .ge 21, 3) := by decide +kernel
theorem dX1_exit_63 : decode cX1_exit 63 = .ok (.aload_n 0, 1) := by decide +kernel
theorem dX1_exit_64 : decode cX1_exit 64 = .ok (.getfield 13, 3) := by decide +kernel
theorem dX1_exit_67 : decode cX1_exit 67 = .ok (.bipush 6, 2) := by decide +kernel
theorem dX1_exit_69 : decode cX1_exit 69 = .ok (.iload_n 1, 1) := by decide +kernel
theorem dX1_exit_70 : decode cX1_exit 70 = .ok (.imul, 1) := by decide +kernel
theorem dX1_exit_71 : decode cX1_exit 71 = .ok (.iload_n 3, 1) := by decide +kernel
theorem dX1_exit_72 : decode cX1_exit 72 = .ok (.iadd, 1) := by decide +kernel
theorem dX1_exit_73 : decode cX1_exit 73 = .ok (.iconst (-1), 1) := by decide +kernel
theorem dX1_exit_74 : decode cX1_exit 74 = .ok (.iastore, 1) := by decide +kernel
theorem dX1_exit_75 : decode cX1_exit 75 = .ok (.iinc 3 1, 3) := by decide +kernel
theorem dX1_exit_78 : decode cX1_exit 78 = .ok (.goto (-21), 3) := by decide +kernel
theorem dX1_exit_81 : decode cX1_exit 81 = .ok (.iconst 0, 1) := by decide +kernel
theorem dX1_exit_82 : decode cX1_exit 82 = .ok (.ireturn, 1) := by decide +kernel
abbrev cX1_write : ByteArray := prog_3_method_18_code
def yX1_write : MethodName := ⟨RX1, "write", "(III)I"⟩
theorem dX1_write_0 : decode cX1_write 0 = .ok (.aload_n 0, 1) := by decide +kernel
theorem dX1_write_1 : decode cX1_write 1 = .ok (.iload_n 1, 1) := by decide +kernel
theorem dX1_write_2 : decode cX1_write 2 = .ok (.iload_n 2, 1) := by decide +kernel
theorem dX1_write_3 : decode cX1_write 3 = .ok (.invokevirtual 73, 3) := by decide +kernel
theorem dX1_write_6 : decode cX1_write 6 = .ok (.ifCond .eq 5, 3) := by decide +kernel
theorem dX1_write_9 : decode cX1_write 9 = .ok (.iconst (-1), 1) := by decide +kernel
theorem dX1_write_10 : decode cX1_write 10 = .ok (.ireturn, 1) := by decide +kernel
theorem dX1_write_11 : decode cX1_write 11 = .ok (.aload_n 0, 1) := by decide +kernel
theorem dX1_write_12 : decode cX1_write 12 = .ok (.getfield 13, 3) := by decide +kernel
theorem dX1_write_15 : decode cX1_write 15 = .ok (.bipush 6, 2) := by decide +kernel
theorem dX1_write_17 : decode cX1_write 17 = .ok (.iload_n 1, 1) := by decide +kernel
theorem dX1_write_18 : decode cX1_write 18 = .ok (.imul, 1) := by decide +kernel
theorem dX1_write_19 : decode cX1_write 19 = .ok (.iload_n 2, 1) := by decide +kernel
theorem dX1_write_20 : decode cX1_write 20 = .ok (.iadd, 1) := by decide +kernel
theorem dX1_write_21 : decode cX1_write 21 = .ok (.iaload, 1) := by decide +kernel
theorem dX1_write_22 : decode cX1_write 22 = .ok (.istore 4, 2) := by decide +kernel
theorem dX1_write_24 : decode cX1_write 24 = .ok (.aload_n 0, 1) := by decide +kernel
theorem dX1_write_25 : decode cX1_write 25 = .ok (.getfield 20, 3) := by decide +kernel
theorem dX1_write_28 : decode cX1_write 28 = .ok (.iload 4, 2) := by decide +kernel
theorem dX1_write_30 : decode cX1_write 30 = .ok (.iaload, 1) := by decide +kernel
theorem dX1_write_31 : decode cX1_write 31 = .ok (.istore 5, 2) := by decide +kernel
theorem dX1_write_33 : decode cX1_write 33 = .ok (.aload_n 0, 1) := by decide +kernel
theorem dX1_write_34 : decode cX1_write 34 = .ok (.getfield 17, 3) := by decide +kernel
theorem dX1_write_37 : decode cX1_write 37 = .ok (.iload 4, 2) := by decide +kernel
theorem dX1_write_39 : decode cX1_write 39 = .ok (.iaload, 1) := by decide +kernel
theorem dX1_write_40 : decode cX1_write 40 = .ok (.iconst 1, 1) := by decide +kernel
theorem dX1_write_41 : decode cX1_write 41 = .ok (.if_icmp .ne 5, 3) := by decide +kernel
theorem dX1_write_44 : decode cX1_write 44 = .ok (.iconst (-1), 1) := by decide +kernel
theorem dX1_write_45 : decode cX1_write 45 = .ok (.ireturn, 1) := by decide +kernel
theorem dX1_write_46 : decode cX1_write 46 = .ok (.aload_n 0, 1) := by decide +kernel
theorem dX1_write_47 : decode cX1_write 47 = .ok (.getfield 17, 3) := by decide +kernel
theorem dX1_write_50 : decode cX1_write 50 = .ok (.iload 4, 2) := by decide +kernel
theorem dX1_write_52 : decode cX1_write 52 = .ok (.iaload, 1) := by decide +kernel
theorem dX1_write_53 : decode cX1_write 53 = .ok (.iconst 2, 1) := by decide +kernel
theorem dX1_write_54 : decode cX1_write 54 = .ok (.if_icmp .ne 67, 3) := by decide +kernel
theorem dX1_write_57 : decode cX1_write 57 = .ok (.aload_n 0, 1) := by decide +kernel
theorem dX1_write_58 : decode cX1_write 58 = .ok (.iconst 1, 1) := by decide +kernel
theorem dX1_write_59 : decode cX1_write 59 = .ok (.iload 5, 2) := by decide +kernel
theorem dX1_write_61 : decode cX1_write 61 = .ok (.invokevirtual 48, 3) := by decide +kernel
theorem dX1_write_64 : decode cX1_write 64 = .ok (.ifCond .ne 6, 3) := by decide +kernel
theorem dX1_write_67 : decode cX1_write 67 = .ok (.bipush (-3), 2) := by decide +kernel
theorem dX1_write_69 : decode cX1_write 69 = .ok (.ireturn, 1) := by decide +kernel
theorem dX1_write_70 : decode cX1_write 70 = .ok (.aload_n 0, 1) := by decide +kernel
theorem dX1_write_71 : decode cX1_write 71 = .ok (.getfield 35, 3) := by decide +kernel
theorem dX1_write_74 : decode cX1_write 74 = .ok (.iload 5, 2) := by decide +kernel
theorem dX1_write_76 : decode cX1_write 76 = .ok (.iaload, 1) := by decide +kernel
theorem dX1_write_77 : decode cX1_write 77 = .ok (.bipush 6, 2) := by decide +kernel
theorem dX1_write_79 : decode cX1_write 79 = .ok (.if_icmp .ne 6, 3) := by decide +kernel
theorem dX1_write_82 : decode cX1_write 82 = .ok (.bipush (-4), 2) := by decide +kernel
theorem dX1_write_84 : decode cX1_write 84 = .ok (.ireturn, 1) := by decide +kernel
theorem dX1_write_85 : decode cX1_write 85 = .ok (.aload_n 0, 1) := by decide +kernel
theorem dX1_write_86 : decode cX1_write 86 = .ok (.getfield 38, 3) := by decide +kernel
theorem dX1_write_89 : decode cX1_write 89 = .ok (.bipush 6, 2) := by decide +kernel
theorem dX1_write_91 : decode cX1_write 91 = .ok (.iload 5, 2) := by decide +kernel
theorem dX1_write_93 : decode cX1_write 93 = .ok (.imul, 1) := by decide +kernel
theorem dX1_write_94 : decode cX1_write 94 = .ok (.aload_n 0, 1) := by decide +kernel
theorem dX1_write_95 : decode cX1_write 95 = .ok (.getfield 35, 3) := by decide +kernel
theorem dX1_write_98 : decode cX1_write 98 = .ok (.iload 5, 2) := by decide +kernel
theorem dX1_write_100 : decode cX1_write 100 = .ok (.iaload, 1) := by decide +kernel
theorem dX1_write_101 : decode cX1_write 101 = .ok (.iadd, 1) := by decide +kernel
theorem dX1_write_102 : decode cX1_write 102 = .ok (.iload_n 3, 1) := by decide +kernel
theorem dX1_write_103 : decode cX1_write 103 = .ok (.sipush 255, 3) := by decide +kernel
theorem dX1_write_106 : decode cX1_write 106 = .ok (.iand, 1) := by decide +kernel
theorem dX1_write_107 : decode cX1_write 107 = .ok (.iastore, 1) := by decide +kernel
theorem dX1_write_108 : decode cX1_write 108 = .ok (.aload_n 0, 1) := by decide +kernel
theorem dX1_write_109 : decode cX1_write 109 = .ok (.getfield 35, 3) := by decide +kernel
theorem dX1_write_112 : decode cX1_write 112 = .ok (.iload 5, 2) := by decide +kernel
theorem dX1_write_114 : decode cX1_write 114 = .ok (.dup2, 1) := by decide +kernel
theorem dX1_write_115 : decode cX1_write 115 = .ok (.iaload, 1) := by decide +kernel
theorem dX1_write_116 : decode cX1_write 116 = .ok (.iconst 1, 1) := by decide +kernel
theorem dX1_write_117 : decode cX1_write 117 = .ok (.iadd, 1) := by decide +kernel
theorem dX1_write_118 : decode cX1_write 118 = .ok (.iastore, 1) := by decide +kernel
theorem dX1_write_119 : decode cX1_write 119 = .ok (.iconst 0, 1) := by decide +kernel
theorem dX1_write_120 : decode cX1_write 120 = .ok (.ireturn, 1) := by decide +kernel
theorem dX1_write_121 : decode cX1_write 121 = .ok (.aload_n 0, 1) := by decide +kernel
theorem dX1_write_122 : decode cX1_write 122 = .ok (.getfield 23, 3) := by decide +kernel
theorem dX1_write_125 : decode cX1_write 125 = .ok (.iload 4, 2) := by decide +kernel
theorem dX1_write_127 : decode cX1_write 127 = .ok (.iaload, 1) := by decide +kernel
theorem dX1_write_128 : decode cX1_write 128 = .ok (.bipush 8, 2) := by decide +kernel
theorem dX1_write_130 : decode cX1_write 130 = .ok (.if_icmp .ne 6, 3) := by decide +kernel
theorem dX1_write_133 : decode cX1_write 133 = .ok (.bipush (-2), 2) := by decide +kernel
theorem dX1_write_135 : decode cX1_write 135 = .ok (.ireturn, 1) := by decide +kernel
theorem dX1_write_136 : decode cX1_write 136 = .ok (.aload_n 0, 1) := by decide +kernel
theorem dX1_write_137 : decode cX1_write 137 = .ok (.getfield 32, 3) := by decide +kernel
theorem dX1_write_140 : decode cX1_write 140 = .ok (.bipush 8, 2) := by decide +kernel
theorem dX1_write_142 : decode cX1_write 142 = .ok (.iload 5, 2) := by decide +kernel
theorem dX1_write_144 : decode cX1_write 144 = .ok (.imul, 1) := by decide +kernel
theorem dX1_write_145 : decode cX1_write 145 = .ok (.aload_n 0, 1) := by decide +kernel
theorem dX1_write_146 : decode cX1_write 146 = .ok (.getfield 23, 3) := by decide +kernel
theorem dX1_write_149 : decode cX1_write 149 = .ok (.iload 4, 2) := by decide +kernel
theorem dX1_write_151 : decode cX1_write 151 = .ok (.iaload, 1) := by decide +kernel
theorem dX1_write_152 : decode cX1_write 152 = .ok (.iadd, 1) := by decide +kernel
theorem dX1_write_153 : decode cX1_write 153 = .ok (.iload_n 3, 1) := by decide +kernel
theorem dX1_write_154 : decode cX1_write 154 = .ok (.sipush 255, 3) := by decide +kernel
theorem dX1_write_157 : decode cX1_write 157 = .ok (.iand, 1) := by decide +kernel
theorem dX1_write_158 : decode cX1_write 158 = .ok (.iastore, 1) := by decide +kernel
theorem dX1_write_159 : decode cX1_write 159 = .ok (.aload_n 0, 1) := by decide +kernel
theorem dX1_write_160 : decode cX1_write 160 = .ok (.getfield 23, 3) := by decide +kernel
theorem dX1_write_163 : decode cX1_write 163 = .ok (.iload 4, 2) := by decide +kernel
theorem dX1_write_165 : decode cX1_write 165 = .ok (.iaload, 1) := by decide +kernel
theorem dX1_write_166 : decode cX1_write 166 = .ok (.aload_n 0, 1) := by decide +kernel
theorem dX1_write_167 : decode cX1_write 167 = .ok (.getfield 29, 3) := by decide +kernel
theorem dX1_write_170 : decode cX1_write 170 = .ok (.iload 5, 2) := by decide +kernel
theorem dX1_write_172 : decode cX1_write 172 = .ok (.iaload, 1) := by decide +kernel
theorem dX1_write_173 : decode cX1_write 173 = .ok (.if_icmp .ne 14, 3) := by decide +kernel
theorem dX1_write_176 : decode cX1_write 176 = .ok (.aload_n 0, 1) := by decide +kernel
theorem dX1_write_177 : decode cX1_write 177 = .ok (.getfield 29, 3) := by decide +kernel
theorem dX1_write_180 : decode cX1_write 180 = .ok (.iload 5, 2) := by decide +kernel
theorem dX1_write_182 : decode cX1_write 182 = .ok (.dup2, 1) := by decide +kernel
theorem dX1_write_183 : decode cX1_write 183 = .ok (.iaload, 1) := by decide +kernel
theorem dX1_write_184 : decode cX1_write 184 = .ok (.iconst 1, 1) := by decide +kernel
theorem dX1_write_185 : decode cX1_write 185 = .ok (.iadd, 1) := by decide +kernel
theorem dX1_write_186 : decode cX1_write 186 = .ok (.iastore, 1) := by decide +kernel
theorem dX1_write_187 : decode cX1_write 187 = .ok (.aload_n 0, 1) := by decide +kernel
theorem dX1_write_188 : decode cX1_write 188 = .ok (.getfield 23, 3) := by decide +kernel
theorem dX1_write_191 : decode cX1_write 191 = .ok (.iload 4, 2) := by decide +kernel
theorem dX1_write_193 : decode cX1_write 193 = .ok (.dup2, 1) := by decide +kernel
theorem dX1_write_194 : decode cX1_write 194 = .ok (.iaload, 1) := by decide +kernel
theorem dX1_write_195 : decode cX1_write 195 = .ok (.iconst 1, 1) := by decide +kernel
theorem dX1_write_196 : decode cX1_write 196 = .ok (.iadd, 1) := by decide +kernel
theorem dX1_write_197 : decode cX1_write 197 = .ok (.iastore, 1) := by decide +kernel
theorem dX1_write_198 : decode cX1_write 198 = .ok (.iconst 0, 1) := by decide +kernel
theorem dX1_write_199 : decode cX1_write 199 = .ok (.ireturn, 1) := by decide +kernel
abbrev cX1_read : ByteArray := prog_3_method_19_code
def yX1_read : MethodName := ⟨RX1, "read", "(II)I"⟩
theorem dX1_read_0 : decode cX1_read 0 = .ok (.aload_n 0, 1) := by decide +kernel
theorem dX1_read_1 : decode cX1_read 1 = .ok (.iload_n 1, 1) := by decide +kernel
theorem dX1_read_2 : decode cX1_read 2 = .ok (.iload_n 2, 1) := by decide +kernel
theorem dX1_read_3 : decode cX1_read 3 = .ok (.invokevirtual 73, 3) := by decide +kernel
theorem dX1_read_6 : decode cX1_read 6 = .ok (.ifCond .eq 5, 3) := by decide +kernel
theorem dX1_read_9 : decode cX1_read 9 = .ok (.iconst (-1), 1) := by decide +kernel
theorem dX1_read_10 : decode cX1_read 10 = .ok (.ireturn, 1) := by decide +kernel
theorem dX1_read_11 : decode cX1_read 11 = .ok (.aload_n 0, 1) := by decide +kernel
theorem dX1_read_12 : decode cX1_read 12 = .ok (.getfield 13, 3) := by decide +kernel
theorem dX1_read_15 : decode cX1_read 15 = .ok (.bipush 6, 2) := by decide +kernel
theorem dX1_read_17 : decode cX1_read 17 = .ok (.iload_n 1, 1) := by decide +kernel
theorem dX1_read_18 : decode cX1_read 18 = .ok (.imul, 1) := by decide +kernel
theorem dX1_read_19 : decode cX1_read 19 = .ok (.iload_n 2, 1) := by decide +kernel
theorem dX1_read_20 : decode cX1_read 20 = .ok (.iadd, 1) := by decide +kernel
theorem dX1_read_21 : decode cX1_read 21 = .ok (.iaload, 1) := by decide +kernel
theorem dX1_read_22 : decode cX1_read 22 = .ok (.istore_n 3, 1) := by decide +kernel
theorem dX1_read_23 : decode cX1_read 23 = .ok (.aload_n 0, 1) := by decide +kernel
theorem dX1_read_24 : decode cX1_read 24 = .ok (.getfield 20, 3) := by decide +kernel
theorem dX1_read_27 : decode cX1_read 27 = .ok (.iload_n 3, 1) := by decide +kernel
theorem dX1_read_28 : decode cX1_read 28 = .ok (.iaload, 1) := by decide +kernel
theorem dX1_read_29 : decode cX1_read 29 = .ok (.istore 4, 2) := by decide +kernel
theorem dX1_read_31 : decode cX1_read 31 = .ok (.aload_n 0, 1) := by decide +kernel
theorem dX1_read_32 : decode cX1_read 32 = .ok (.getfield 17, 3) := by decide +kernel
theorem dX1_read_35 : decode cX1_read 35 = .ok (.iload_n 3, 1) := by decide +kernel
theorem dX1_read_36 : decode cX1_read 36 = .ok (.iaload, 1) := by decide +kernel
theorem dX1_read_37 : decode cX1_read 37 = .ok (.iconst 2, 1) := by decide +kernel
theorem dX1_read_38 : decode cX1_read 38 = .ok (.if_icmp .ne 5, 3) := by decide +kernel
theorem dX1_read_41 : decode cX1_read 41 = .ok (.iconst (-1), 1) := by decide +kernel
theorem dX1_read_42 : decode cX1_read 42 = .ok (.ireturn, 1) := by decide +kernel
theorem dX1_read_43 : decode cX1_read 43 = .ok (.aload_n 0, 1) := by decide +kernel
theorem dX1_read_44 : decode cX1_read 44 = .ok (.getfield 17, 3) := by decide +kernel
theorem dX1_read_47 : decode cX1_read 47 = .ok (.iload_n 3, 1) := by decide +kernel
theorem dX1_read_48 : decode cX1_read 48 = .ok (.iaload, 1) := by decide +kernel
theorem dX1_read_49 : decode cX1_read 49 = .ok (.iconst 1, 1) := by decide +kernel
theorem dX1_read_50 : decode cX1_read 50 = .ok (.if_icmp .ne 106, 3) := by decide +kernel
theorem dX1_read_53 : decode cX1_read 53 = .ok (.aload_n 0, 1) := by decide +kernel
theorem dX1_read_54 : decode cX1_read 54 = .ok (.getfield 35, 3) := by decide +kernel
theorem dX1_read_57 : decode cX1_read 57 = .ok (.iload 4, 2) := by decide +kernel
theorem dX1_read_59 : decode cX1_read 59 = .ok (.iaload, 1) := by decide +kernel
theorem dX1_read_60 : decode cX1_read 60 = .ok (.ifCond .ne 21, 3) := by decide +kernel
theorem dX1_read_63 : decode cX1_read 63 = .ok (.aload_n 0, 1) := by decide +kernel
theorem dX1_read_64 : decode cX1_read 64 = .ok (.iconst 2, 1) := by decide +kernel
theorem dX1_read_65 : decode cX1_read 65 = .ok (.iload 4, 2) := by decide +kernel
theorem dX1_read_67 : decode cX1_read 67 = .ok (.invokevirtual 48, 3) := by decide +kernel
theorem dX1_read_70 : decode cX1_read 70 = .ok (.ifCond .eq 8, 3) := by decide +kernel
theorem dX1_read_73 : decode cX1_read 73 = .ok (.bipush (-4), 2) := by decide +kernel
theorem dX1_read_75 : decode cX1_read 75 = .ok (.goto 5, 3) := by decide +kernel
theorem dX1_read_78 : decode cX1_read 78 = .ok (.bipush (-5), 2) := by decide +kernel
theorem dX1_read_80 : decode cX1_read 80 = .ok (.ireturn, 1) := by decide +kernel
theorem dX1_read_81 : decode cX1_read 81 = .ok (.aload_n 0, 1) := by decide +kernel
theorem dX1_read_82 : decode cX1_read 82 = .ok (.getfield 38, 3) := by decide +kernel
theorem dX1_read_85 : decode cX1_read 85 = .ok (.bipush 6, 2) := by decide +kernel
theorem dX1_read_87 : decode cX1_read 87 = .ok (.iload 4, 2) := by decide +kernel
theorem dX1_read_89 : decode cX1_read 89 = .ok (.imul, 1) := by decide +kernel
theorem dX1_read_90 : decode cX1_read 90 = .ok (.iaload, 1) := by decide +kernel
theorem dX1_read_91 : decode cX1_read 91 = .ok (.istore 5, 2) := by decide +kernel
theorem dX1_read_93 : decode cX1_read 93 = .ok (.aload_n 0, 1) := by decide +kernel
theorem dX1_read_94 : decode cX1_read 94 = .ok (.getfield 35, 3) := by decide +kernel
theorem dX1_read_97 : decode cX1_read 97 = .ok (.iload 4, 2) := by decide +kernel
theorem dX1_read_99 : decode cX1_read 99 = .ok (.dup2, 1) := by decide +kernel
theorem dX1_read_100 : decode cX1_read 100 = .ok (.iaload, 1) := by decide +kernel
theorem dX1_read_101 : decode cX1_read 101 = .ok (.iconst 1, 1) := by decide +kernel
theorem dX1_read_102 : decode cX1_read 102 = .ok (.isub, 1) := by decide +kernel
theorem dX1_read_103 : decode cX1_read 103 = .ok (.iastore, 1) := by decide +kernel
theorem dX1_read_104 : decode cX1_read 104 = .ok (.iconst 0, 1) := by decide +kernel
theorem dX1_read_105 : decode cX1_read 105 = .ok (.istore 6, 2) := by decide +kernel
theorem dX1_read_107 : decode cX1_read 107 = .ok (.iload 6, 2) := by decide +kernel
theorem dX1_read_109 : decode cX1_read 109 = .ok (.aload_n 0, 1) := by decide +kernel
theorem dX1_read_110 : decode cX1_read 110 = .ok (.getfield 35, 3) := by decide +kernel
theorem dX1_read_113 : decode cX1_read 113 = .ok (.iload 4, 2) := by decide +kernel
theorem dX1_read_115 : decode cX1_read 115 = .ok (.iaload, 1) := by decide +kernel
theorem dX1_read_116 : decode cX1_read 116 = .ok (.if_icmp .ge 37, 3) := by decide +kernel
theorem dX1_read_119 : decode cX1_read 119 = .ok (.aload_n 0, 1) := by decide +kernel
theorem dX1_read_120 : decode cX1_read 120 = .ok (.getfield 38, 3) := by decide +kernel
theorem dX1_read_123 : decode cX1_read 123 = .ok (.bipush 6, 2) := by decide +kernel
theorem dX1_read_125 : decode cX1_read 125 = .ok (.iload 4, 2) := by decide +kernel
theorem dX1_read_127 : decode cX1_read 127 = .ok (.imul, 1) := by decide +kernel
theorem dX1_read_128 : decode cX1_read 128 = .ok (.iload 6, 2) := by decide +kernel
theorem dX1_read_130 : decode cX1_read 130 = .ok (.iadd, 1) := by decide +kernel
theorem dX1_read_131 : decode cX1_read 131 = .ok (.aload_n 0, 1) := by decide +kernel
theorem dX1_read_132 : decode cX1_read 132 = .ok (.getfield 38, 3) := by decide +kernel
theorem dX1_read_135 : decode cX1_read 135 = .ok (.bipush 6, 2) := by decide +kernel
theorem dX1_read_137 : decode cX1_read 137 = .ok (.iload 4, 2) := by decide +kernel
theorem dX1_read_139 : decode cX1_read 139 = .ok (.imul, 1) := by decide +kernel
theorem dX1_read_140 : decode cX1_read 140 = .ok (.iload 6, 2) := by decide +kernel
theorem dX1_read_142 : decode cX1_read 142 = .ok (.iadd, 1) := by decide +kernel
theorem dX1_read_143 : decode cX1_read 143 = .ok (.iconst 1, 1) := by decide +kernel
theorem dX1_read_144 : decode cX1_read 144 = .ok (.iadd, 1) := by decide +kernel
theorem dX1_read_145 : decode cX1_read 145 = .ok (.iaload, 1) := by decide +kernel
theorem dX1_read_146 : decode cX1_read 146 = .ok (.iastore, 1) := by decide +kernel
theorem dX1_read_147 : decode cX1_read 147 = .ok (.iinc 6 1, 3) := by decide +kernel
theorem dX1_read_150 : decode cX1_read 150 = .ok (.goto (-43), 3) := by decide +kernel
theorem dX1_read_153 : decode cX1_read 153 = .ok (.iload 5, 2) := by decide +kernel
theorem dX1_read_155 : decode cX1_read 155 = .ok (.ireturn, 1) := by decide +kernel
theorem dX1_read_156 : decode cX1_read 156 = .ok (.aload_n 0, 1) := by decide +kernel
theorem dX1_read_157 : decode cX1_read 157 = .ok (.getfield 23, 3) := by decide +kernel
theorem dX1_read_160 : decode cX1_read 160 = .ok (.iload_n 3, 1) := by decide +kernel
theorem dX1_read_161 : decode cX1_read 161 = .ok (.iaload, 1) := by decide +kernel
theorem dX1_read_162 : decode cX1_read 162 = .ok (.aload_n 0, 1) := by decide +kernel
theorem dX1_read_163 : decode cX1_read 163 = .ok (.getfield 29, 3) := by decide +kernel
theorem dX1_read_166 : decode cX1_read 166 = .ok (.iload 4, 2) := by decide +kernel
theorem dX1_read_168 : decode cX1_read 168 = .ok (.iaload, 1) := by decide +kernel
theorem dX1_read_169 : decode cX1_read 169 = .ok (.if_icmp .ne 6, 3) := by decide +kernel
theorem dX1_read_172 : decode cX1_read 172 = .ok (.bipush (-5), 2) := by decide +kernel
theorem dX1_read_174 : decode cX1_read 174 = .ok (.ireturn, 1) := by decide +kernel
theorem dX1_read_175 : decode cX1_read 175 = .ok (.aload_n 0, 1) := by decide +kernel
theorem dX1_read_176 : decode cX1_read 176 = .ok (.getfield 23, 3) := by decide +kernel
theorem dX1_read_179 : decode cX1_read 179 = .ok (.iload_n 3, 1) := by decide +kernel
theorem dX1_read_180 : decode cX1_read 180 = .ok (.dup2, 1) := by decide +kernel
theorem dX1_read_181 : decode cX1_read 181 = .ok (.iaload, 1) := by decide +kernel
theorem dX1_read_182 : decode cX1_read 182 = .ok (.iconst 1, 1) := by decide +kernel
theorem dX1_read_183 : decode cX1_read 183 = .ok (.iadd, 1) := by decide +kernel
theorem dX1_read_184 : decode cX1_read 184 = .ok (.iastore, 1) := by decide +kernel
theorem dX1_read_185 : decode cX1_read 185 = .ok (.aload_n 0, 1) := by decide +kernel
theorem dX1_read_186 : decode cX1_read 186 = .ok (.getfield 32, 3) := by decide +kernel
theorem dX1_read_189 : decode cX1_read 189 = .ok (.bipush 8, 2) := by decide +kernel
theorem dX1_read_191 : decode cX1_read 191 = .ok (.iload 4, 2) := by decide +kernel
theorem dX1_read_193 : decode cX1_read 193 = .ok (.imul, 1) := by decide +kernel
theorem dX1_read_194 : decode cX1_read 194 = .ok (.aload_n 0, 1) := by decide +kernel
theorem dX1_read_195 : decode cX1_read 195 = .ok (.getfield 23, 3) := by decide +kernel
theorem dX1_read_198 : decode cX1_read 198 = .ok (.iload_n 3, 1) := by decide +kernel
theorem dX1_read_199 : decode cX1_read 199 = .ok (.iaload, 1) := by decide +kernel
theorem dX1_read_200 : decode cX1_read 200 = .ok (.iadd, 1) := by decide +kernel
theorem dX1_read_201 : decode cX1_read 201 = .ok (.iconst 1, 1) := by decide +kernel
theorem dX1_read_202 : decode cX1_read 202 = .ok (.isub, 1) := by decide +kernel
theorem dX1_read_203 : decode cX1_read 203 = .ok (.iaload, 1) := by decide +kernel
theorem dX1_read_204 : decode cX1_read 204 = .ok (.ireturn, 1) := by decide +kernel
abbrev cX1_seek : ByteArray := prog_3_method_20_code
def yX1_seek : MethodName := ⟨RX1, "seek", "(III)I"⟩
theorem dX1_seek_0 : decode cX1_seek 0 = .ok (.aload_n 0, 1) := by decide +kernel
theorem dX1_seek_1 : decode cX1_seek 1 = .ok (.iload_n 1, 1) := by decide +kernel
theorem dX1_seek_2 : decode cX1_seek 2 = .ok (.iload_n 2, 1) := by decide +kernel
theorem dX1_seek_3 : decode cX1_seek 3 = .ok (.invokevirtual 73, 3) := by decide +kernel
theorem dX1_seek_6 : decode cX1_seek 6 = .ok (.ifCond .eq 5, 3) := by decide +kernel
theorem dX1_seek_9 : decode cX1_seek 9 = .ok (.iconst (-1), 1) := by decide +kernel
theorem dX1_seek_10 : decode cX1_seek 10 = .ok (.ireturn, 1) := by decide +kernel
theorem dX1_seek_11 : decode cX1_seek 11 = .ok (.aload_n 0, 1) := by decide +kernel
theorem dX1_seek_12 : decode cX1_seek 12 = .ok (.getfield 13, 3) := by decide +kernel
theorem dX1_seek_15 : decode cX1_seek 15 = .ok (.bipush 6, 2) := by decide +kernel
theorem dX1_seek_17 : decode cX1_seek 17 = .ok (.iload_n 1, 1) := by decide +kernel
theorem dX1_seek_18 : decode cX1_seek 18 = .ok (.imul, 1) := by decide +kernel
theorem dX1_seek_19 : decode cX1_seek 19 = .ok (.iload_n 2, 1) := by decide +kernel
theorem dX1_seek_20 : decode cX1_seek 20 = .ok (.iadd, 1) := by decide +kernel
theorem dX1_seek_21 : decode cX1_seek 21 = .ok (.iaload, 1) := by decide +kernel
theorem dX1_seek_22 : decode cX1_seek 22 = .ok (.istore 4, 2) := by decide +kernel
theorem dX1_seek_24 : decode cX1_seek 24 = .ok (.aload_n 0, 1) := by decide +kernel
theorem dX1_seek_25 : decode cX1_seek 25 = .ok (.getfield 17, 3) := by decide +kernel
theorem dX1_seek_28 : decode cX1_seek 28 = .ok (.iload 4, 2) := by decide +kernel
theorem dX1_seek_30 : decode cX1_seek 30 = .ok (.iaload, 1) := by decide +kernel
theorem dX1_seek_31 : decode cX1_seek 31 = .ok (.ifCond .ne 23, 3) := by decide +kernel
theorem dX1_seek_34 : decode cX1_seek 34 = .ok (.iload_n 3, 1) := by decide +kernel
theorem dX1_seek_35 : decode cX1_seek 35 = .ok (.ifCond .lt 19, 3) := by decide +kernel
theorem dX1_seek_38 : decode cX1_seek 38 = .ok (.iload_n 3, 1) := by decide +kernel
theorem dX1_seek_39 : decode cX1_seek 39 = .ok (.aload_n 0, 1) := by decide +kernel
theorem dX1_seek_40 : decode cX1_seek 40 = .ok (.getfield 29, 3) := by decide +kernel
theorem dX1_seek_43 : decode cX1_seek 43 = .ok (.aload_n 0, 1) := by decide +kernel
theorem dX1_seek_44 : decode cX1_seek 44 = .ok (.getfield 20, 3) := by decide +kernel
theorem dX1_seek_47 : decode cX1_seek 47 = .ok (.iload 4, 2) := by decide +kernel
theorem dX1_seek_49 : decode cX1_seek 49 = .ok (.iaload, 1) := by decide +kernel
theorem dX1_seek_50 : decode cX1_seek 50 = .ok (.iaload, 1) := by decide +kernel
theorem dX1_seek_51 : decode cX1_seek 51 = .ok (.if_icmp .le 5, 3) := by decide +kernel
theorem dX1_seek_54 : decode cX1_seek 54 = .ok (.iconst (-1), 1) := by decide +kernel
theorem dX1_seek_55 : decode cX1_seek 55 = .ok (.ireturn, 1) := by decide +kernel
theorem dX1_seek_56 : decode cX1_seek 56 = .ok (.aload_n 0, 1) := by decide +kernel
theorem dX1_seek_57 : decode cX1_seek 57 = .ok (.getfield 23, 3) := by decide +kernel
theorem dX1_seek_60 : decode cX1_seek 60 = .ok (.iload 4, 2) := by decide +kernel
theorem dX1_seek_62 : decode cX1_seek 62 = .ok (.iload_n 3, 1) := by decide +kernel
theorem dX1_seek_63 : decode cX1_seek 63 = .ok (.iastore, 1) := by decide +kernel
theorem dX1_seek_64 : decode cX1_seek 64 = .ok (.iconst 0, 1) := by decide +kernel
theorem dX1_seek_65 : decode cX1_seek 65 = .ok (.ireturn, 1) := by decide +kernel
abbrev cX1_link : ByteArray := prog_3_method_21_code
def yX1_link : MethodName := ⟨RX1, "link", "(II)I"⟩
theorem dX1_link_0 : decode cX1_link 0 = .ok (.iload_n 1, 1) := by decide +kernel
theorem dX1_link_1 : decode cX1_link 1 = .ok (.invokestatic 59, 3) := by decide +kernel
theorem dX1_link_4 : decode cX1_link 4 = .ok (.ifCond .ne 28, 3) := by decide +kernel
theorem dX1_link_7 : decode cX1_link 7 = .ok (.iload_n 2, 1) := by decide +kernel
theorem dX1_link_8 : decode cX1_link 8 = .ok (.invokestatic 59, 3) := by decide +kernel
theorem dX1_link_11 : decode cX1_link 11 = .ok (.ifCond .ne 21, 3) := by decide +kernel
theorem dX1_link_14 : decode cX1_link 14 = .ok (.aload_n 0, 1) := by decide +kernel
theorem dX1_link_15 : decode cX1_link 15 = .ok (.getfield 26, 3) := by decide +kernel
theorem dX1_link_18 : decode cX1_link 18 = .ok (.iload_n 1, 1) := by decide +kernel
theorem dX1_link_19 : decode cX1_link 19 = .ok (.iaload, 1) := by decide +kernel
theorem dX1_link_20 : decode cX1_link 20 = .ok (.ifCond .lt 12, 3) := by decide +kernel
theorem dX1_link_23 : decode cX1_link 23 = .ok (.aload_n 0, 1) := by decide +kernel
theorem dX1_link_24 : decode cX1_link 24 = .ok (.getfield 26, 3) := by decide +kernel
theorem dX1_link_27 : decode cX1_link 27 = .ok (.iload_n 2, 1) := by decide +kernel
theorem dX1_link_28 : decode cX1_link 28 = .ok (.iaload, 1) := by decide +kernel
theorem dX1_link_29 : decode cX1_link 29 = .ok (.ifCond .lt 5, 3) := by decide +kernel
theorem dX1_link_32 : decode cX1_link 32 = .ok (.iconst (-1), 1) := by decide +kernel
theorem dX1_link_33 : decode cX1_link 33 = .ok (.ireturn, 1) := by decide +kernel
theorem dX1_link_34 : decode cX1_link 34 = .ok (.aload_n 0, 1) := by decide +kernel
theorem dX1_link_35 : decode cX1_link 35 = .ok (.getfield 26, 3) := by decide +kernel
theorem dX1_link_38 : decode cX1_link 38 = .ok (.iload_n 2, 1) := by decide +kernel
theorem dX1_link_39 : decode cX1_link 39 = .ok (.aload_n 0, 1) := by decide +kernel
theorem dX1_link_40 : decode cX1_link 40 = .ok (.getfield 26, 3) := by decide +kernel
theorem dX1_link_43 : decode cX1_link 43 = .ok (.iload_n 1, 1) := by decide +kernel
theorem dX1_link_44 : decode cX1_link 44 = .ok (.iaload, 1) := by decide +kernel
theorem dX1_link_45 : decode cX1_link 45 = .ok (.iastore, 1) := by decide +kernel
theorem dX1_link_46 : decode cX1_link 46 = .ok (.iconst 0, 1) := by decide +kernel
theorem dX1_link_47 : decode cX1_link 47 = .ok (.ireturn, 1) := by decide +kernel
abbrev cX1_unlink : ByteArray := prog_3_method_22_code
def yX1_unlink : MethodName := ⟨RX1, "unlink", "(I)I"⟩
theorem dX1_unlink_0 : decode cX1_unlink 0 = .ok (.iload_n 1, 1) := by decide +kernel
theorem dX1_unlink_1 : decode cX1_unlink 1 = .ok (.invokestatic 59, 3) := by decide +kernel
theorem dX1_unlink_4 : decode cX1_unlink 4 = .ok (.ifCond .ne 12, 3) := by decide +kernel
theorem dX1_unlink_7 : decode cX1_unlink 7 = .ok (.aload_n 0, 1) := by decide +kernel
theorem dX1_unlink_8 : decode cX1_unlink 8 = .ok (.getfield 26, 3) := by decide +kernel
theorem dX1_unlink_11 : decode cX1_unlink 11 = .ok (.iload_n 1, 1) := by decide +kernel
theorem dX1_unlink_12 : decode cX1_unlink 12 = .ok (.iaload, 1) := by decide +kernel
theorem dX1_unlink_13 : decode cX1_unlink 13 = .ok (.ifCond .ge 5, 3) := by decide +kernel
theorem dX1_unlink_16 : decode cX1_unlink 16 = .ok (.iconst (-1), 1) := by decide +kernel
theorem dX1_unlink_17 : decode cX1_unlink 17 = .ok (.ireturn, 1) := by decide +kernel
theorem dX1_unlink_18 : decode cX1_unlink 18 = .ok (.aload_n 0, 1) := by decide +kernel
theorem dX1_unlink_19 : decode cX1_unlink 19 = .ok (.getfield 26, 3) := by decide +kernel
theorem dX1_unlink_22 : decode cX1_unlink 22 = .ok (.iload_n 1, 1) := by decide +kernel
theorem dX1_unlink_23 : decode cX1_unlink 23 = .ok (.iconst (-1), 1) := by decide +kernel
theorem dX1_unlink_24 : decode cX1_unlink 24 = .ok (.iastore, 1) := by decide +kernel
theorem dX1_unlink_25 : decode cX1_unlink 25 = .ok (.iconst 0, 1) := by decide +kernel
theorem dX1_unlink_26 : decode cX1_unlink 26 = .ok (.ireturn, 1) := by decide +kernel
abbrev cX1_counts : ByteArray := prog_3_method_23_code
def yX1_counts : MethodName := ⟨RX1, "counts", "()I"⟩
theorem dX1_counts_0 : decode cX1_counts 0 = .ok (.iconst 0, 1) := by decide +kernel
theorem dX1_counts_1 : decode cX1_counts 1 = .ok (.istore_n 1, 1) := by decide +kernel
theorem dX1_counts_2 : decode cX1_counts 2 = .ok (.iconst 0, 1) := by decide +kernel
theorem dX1_counts_3 : decode cX1_counts 3 = .ok (.istore_n 2, 1) := by decide +kernel
theorem dX1_counts_4 : decode cX1_counts 4 = .ok (.iconst 0, 1) := by decide +kernel
theorem dX1_counts_5 : decode cX1_counts 5 = .ok (.istore_n 3, 1) := by decide +kernel
theorem dX1_counts_6 : decode cX1_counts 6 = .ok (.iconst 0, 1) := by decide +kernel
theorem dX1_counts_7 : decode cX1_counts 7 = .ok (.istore 4, 2) := by decide +kernel
theorem dX1_counts_9 : decode cX1_counts 9 = .ok (.iload 4, 2) := by decide +kernel
theorem dX1_counts_11 : decode cX1_counts 11 = .ok (.bipush 24, 2) := by decide +kernel
theorem dX1_counts_13 : decode cX1_counts 13 = .ok (.if_icmp .ge 34, 3) := by decide +kernel
theorem dX1_counts_16 : decode cX1_counts 16 = .ok (.aload_n 0, 1) := by decide +kernel
theorem dX1_counts_17 : decode cX1_counts 17 = .ok (.iload 4, 2) := by decide +kernel
theorem dX1_counts_19 : decode cX1_counts 19 = .ok (.invokevirtual 45, 3) := by decide +kernel
theorem dX1_counts_22 : decode cX1_counts 22 = .ok (.ifCond .eq 6, 3) := by decide +kernel
theorem dX1_counts_25 : decode cX1_counts 25 = .ok (.iinc 1 1, 3) := by decide +kernel
theorem dX1_counts_28 : decode cX1_counts 28 = .ok (.aload_n 0, 1) := by decide +kernel
theorem dX1_counts_29 : decode cX1_counts 29 = .ok (.iconst 3, 1) := by decide +kernel
theorem dX1_counts_30 : decode cX1_counts 30 = .ok (.iload 4, 2) := by decide +kernel
theorem dX1_counts_32 : decode cX1_counts 32 = .ok (.invokevirtual 48, 3) := by decide +kernel
theorem dX1_counts_35 : decode cX1_counts 35 = .ok (.ifCond .eq 6, 3) := by decide +kernel
theorem dX1_counts_38 : decode cX1_counts 38 = .ok (.iinc 3 1, 3) := by decide +kernel
theorem dX1_counts_41 : decode cX1_counts 41 = .ok (.iinc 4 1, 3) := by decide +kernel
theorem dX1_counts_44 : decode cX1_counts 44 = .ok (.goto (-35), 3) := by decide +kernel
theorem dX1_counts_47 : decode cX1_counts 47 = .ok (.iconst 0, 1) := by decide +kernel
theorem dX1_counts_48 : decode cX1_counts 48 = .ok (.istore 4, 2) := by decide +kernel
theorem dX1_counts_50 : decode cX1_counts 50 = .ok (.iload 4, 2) := by decide +kernel
theorem dX1_counts_52 : decode cX1_counts 52 = .ok (.bipush 28, 2) := by decide +kernel
theorem dX1_counts_54 : decode cX1_counts 54 = .ok (.if_icmp .ge 21, 3) := by decide +kernel
theorem dX1_counts_57 : decode cX1_counts 57 = .ok (.aload_n 0, 1) := by decide +kernel
theorem dX1_counts_58 : decode cX1_counts 58 = .ok (.iload 4, 2) := by decide +kernel
theorem dX1_counts_60 : decode cX1_counts 60 = .ok (.invokevirtual 56, 3) := by decide +kernel
theorem dX1_counts_63 : decode cX1_counts 63 = .ok (.ifCond .eq 6, 3) := by decide +kernel
theorem dX1_counts_66 : decode cX1_counts 66 = .ok (.iinc 2 1, 3) := by decide +kernel
theorem dX1_counts_69 : decode cX1_counts 69 = .ok (.iinc 4 1, 3) := by decide +kernel
theorem dX1_counts_72 : decode cX1_counts 72 = .ok (.goto (-22), 3) := by decide +kernel
theorem dX1_counts_75 : decode cX1_counts 75 = .ok (.bipush 100, 2) := by decide +kernel
theorem dX1_counts_77 : decode cX1_counts 77 = .ok (.iload_n 1, 1) := by decide +kernel
theorem dX1_counts_78 : decode cX1_counts 78 = .ok (.imul, 1) := by decide +kernel
theorem dX1_counts_79 : decode cX1_counts 79 = .ok (.bipush 10, 2) := by decide +kernel
theorem dX1_counts_81 : decode cX1_counts 81 = .ok (.iload_n 2, 1) := by decide +kernel
theorem dX1_counts_82 : decode cX1_counts 82 = .ok (.imul, 1) := by decide +kernel
theorem dX1_counts_83 : decode cX1_counts 83 = .ok (.iadd, 1) := by decide +kernel
theorem dX1_counts_84 : decode cX1_counts 84 = .ok (.iload_n 3, 1) := by decide +kernel
theorem dX1_counts_85 : decode cX1_counts 85 = .ok (.iadd, 1) := by decide +kernel
theorem dX1_counts_86 : decode cX1_counts 86 = .ok (.ireturn, 1) := by decide +kernel
theorem q22 : (Jvm.Cond.initialized "DescriptorTableModel") ∈ lw_all := lw_g (lw_at lw_m1 2 rfl) rfl
theorem q178 : (Jvm.Cond.instantiable "DescriptorTableModel" (10 : Nat)) ∈ lw_all := lw_g (lw_at lw_m1 158 rfl) rfl
theorem q180 : (Jvm.Cond.instanceMethod ({ cls := "DescriptorTableModel", name := "<init>", desc := "()V" } : Jvm.MethodName)) ∈ lw_all := lw_g (lw_at lw_m1 160 rfl) rfl
theorem q181 : (Jvm.Cond.code ({ cls := "DescriptorTableModel", name := "<init>", desc := "()V" } : Jvm.MethodName) prog_3_method_1_code (2 : Nat) (Option.none : Option Jvm.ClassFile.FieldType)) ∈ lw_all := lw_g (lw_at lw_m1 161 rfl) rfl
theorem q182 : (Jvm.Cond.methodLink "DescriptorTableModel" (1 : Nat) ({ cls := "java/lang/Object", name := "<init>", desc := "()V" } : Jvm.MethodName)) ∈ lw_all := lw_g (lw_at lw_m1 162 rfl) rfl
theorem q183 : (Jvm.Cond.fieldLink "DescriptorTableModel" (7 : Nat) "DescriptorTableModel" "alive" "[Z") ∈ lw_all := lw_g (lw_at lw_m1 163 rfl) rfl
theorem q184 : (Jvm.Cond.fieldLink "DescriptorTableModel" (13 : Nat) "DescriptorTableModel" "leads" "[I") ∈ lw_all := lw_g (lw_at lw_m1 164 rfl) rfl
theorem q185 : (Jvm.Cond.fieldLink "DescriptorTableModel" (17 : Nat) "DescriptorTableModel" "sort" "[I") ∈ lw_all := lw_g (lw_at lw_m1 165 rfl) rfl
theorem q186 : (Jvm.Cond.fieldLink "DescriptorTableModel" (20 : Nat) "DescriptorTableModel" "what" "[I") ∈ lw_all := lw_g (lw_at lw_m1 166 rfl) rfl
theorem q187 : (Jvm.Cond.fieldLink "DescriptorTableModel" (23 : Nat) "DescriptorTableModel" "offset" "[I") ∈ lw_all := lw_g (lw_at lw_m1 167 rfl) rfl
theorem q188 : (Jvm.Cond.fieldLink "DescriptorTableModel" (26 : Nat) "DescriptorTableModel" "named" "[I") ∈ lw_all := lw_g (lw_at lw_m1 168 rfl) rfl
theorem q189 : (Jvm.Cond.fieldLink "DescriptorTableModel" (29 : Nat) "DescriptorTableModel" "fileSize" "[I") ∈ lw_all := lw_g (lw_at lw_m1 169 rfl) rfl
theorem q190 : (Jvm.Cond.fieldLink "DescriptorTableModel" (32 : Nat) "DescriptorTableModel" "fileBytes" "[I") ∈ lw_all := lw_g (lw_at lw_m1 170 rfl) rfl
theorem q191 : (Jvm.Cond.fieldLink "DescriptorTableModel" (35 : Nat) "DescriptorTableModel" "pipeSize" "[I") ∈ lw_all := lw_g (lw_at lw_m1 171 rfl) rfl
theorem q192 : (Jvm.Cond.fieldLink "DescriptorTableModel" (38 : Nat) "DescriptorTableModel" "pipeBytes" "[I") ∈ lw_all := lw_g (lw_at lw_m1 172 rfl) rfl
theorem q193 : (Jvm.Cond.laysFinal "DescriptorTableModel" "DescriptorTableModel" "alive" "[Z") ∈ lw_all := lw_g (lw_at lw_m1 173 rfl) rfl
theorem q194 : (Jvm.Cond.soleField "DescriptorTableModel" "alive") ∈ lw_all := lw_g (lw_at lw_m1 174 rfl) rfl
theorem q195 : (Jvm.Cond.laysFinal "DescriptorTableModel" "DescriptorTableModel" "leads" "[I") ∈ lw_all := lw_g (lw_at lw_m1 175 rfl) rfl
theorem q196 : (Jvm.Cond.soleField "DescriptorTableModel" "leads") ∈ lw_all := lw_g (lw_at lw_m1 176 rfl) rfl
theorem q197 : (Jvm.Cond.laysFinal "DescriptorTableModel" "DescriptorTableModel" "sort" "[I") ∈ lw_all := lw_g (lw_at lw_m1 177 rfl) rfl
theorem q198 : (Jvm.Cond.soleField "DescriptorTableModel" "sort") ∈ lw_all := lw_g (lw_at lw_m1 178 rfl) rfl
theorem q199 : (Jvm.Cond.laysFinal "DescriptorTableModel" "DescriptorTableModel" "what" "[I") ∈ lw_all := lw_g (lw_at lw_m1 179 rfl) rfl
theorem q200 : (Jvm.Cond.soleField "DescriptorTableModel" "what") ∈ lw_all := lw_g (lw_at lw_m1 180 rfl) rfl
theorem q201 : (Jvm.Cond.laysFinal "DescriptorTableModel" "DescriptorTableModel" "offset" "[I") ∈ lw_all := lw_g (lw_at lw_m1 181 rfl) rfl
theorem q202 : (Jvm.Cond.soleField "DescriptorTableModel" "offset") ∈ lw_all := lw_g (lw_at lw_m1 182 rfl) rfl
theorem q203 : (Jvm.Cond.laysFinal "DescriptorTableModel" "DescriptorTableModel" "named" "[I") ∈ lw_all := lw_g (lw_at lw_m1 183 rfl) rfl
theorem q204 : (Jvm.Cond.soleField "DescriptorTableModel" "named") ∈ lw_all := lw_g (lw_at lw_m1 184 rfl) rfl
theorem q205 : (Jvm.Cond.laysFinal "DescriptorTableModel" "DescriptorTableModel" "fileSize" "[I") ∈ lw_all := lw_g (lw_at lw_m1 185 rfl) rfl
theorem q206 : (Jvm.Cond.soleField "DescriptorTableModel" "fileSize") ∈ lw_all := lw_g (lw_at lw_m1 186 rfl) rfl
theorem q207 : (Jvm.Cond.laysFinal "DescriptorTableModel" "DescriptorTableModel" "fileBytes" "[I") ∈ lw_all := lw_g (lw_at lw_m1 187 rfl) rfl
theorem q208 : (Jvm.Cond.soleField "DescriptorTableModel" "fileBytes") ∈ lw_all := lw_g (lw_at lw_m1 188 rfl) rfl
theorem q209 : (Jvm.Cond.laysFinal "DescriptorTableModel" "DescriptorTableModel" "pipeSize" "[I") ∈ lw_all := lw_g (lw_at lw_m1 189 rfl) rfl
theorem q210 : (Jvm.Cond.soleField "DescriptorTableModel" "pipeSize") ∈ lw_all := lw_g (lw_at lw_m1 190 rfl) rfl
theorem q211 : (Jvm.Cond.laysFinal "DescriptorTableModel" "DescriptorTableModel" "pipeBytes" "[I") ∈ lw_all := lw_g (lw_at lw_m1 191 rfl) rfl
theorem q212 : (Jvm.Cond.soleField "DescriptorTableModel" "pipeBytes") ∈ lw_all := lw_g (lw_at lw_m1 192 rfl) rfl
theorem q213 : (Jvm.Cond.superclass "DescriptorTableModel" "java/lang/Object") ∈ lw_all := lw_g (lw_at lw_m1 193 rfl) rfl
theorem q215 : (Jvm.Cond.instanceMethod ({ cls := "DescriptorTableModel", name := "open", desc := "(II)I" } : Jvm.MethodName)) ∈ lw_all := lw_g (lw_at lw_m1 195 rfl) rfl
theorem q216 : (Jvm.Cond.selects "DescriptorTableModel" ({ cls := "DescriptorTableModel", name := "open", desc := "(II)I" } : Jvm.MethodName) ({ cls := "DescriptorTableModel", name := "open", desc := "(II)I" } : Jvm.MethodName)) ∈ lw_all := lw_g (lw_at lw_m1 196 rfl) rfl
theorem q217 : (Jvm.Cond.code ({ cls := "DescriptorTableModel", name := "open", desc := "(II)I" } : Jvm.MethodName) prog_3_method_11_code (3 : Nat) (Option.some Jvm.ClassFile.FieldType.int)) ∈ lw_all := lw_g (lw_at lw_m1 197 rfl) rfl
theorem q218 : (Jvm.Cond.methodLink "DescriptorTableModel" (41 : Nat) ({ cls := "DescriptorTableModel", name := "dead", desc := "(I)Z" } : Jvm.MethodName)) ∈ lw_all := lw_g (lw_at lw_m1 198 rfl) rfl
theorem q219 : (Jvm.Cond.privateMethod ({ cls := "DescriptorTableModel", name := "dead", desc := "(I)Z" } : Jvm.MethodName)) ∈ lw_tbl := lw_at lw_m1 199 rfl
theorem q220 : (Jvm.Cond.instanceMethod ({ cls := "DescriptorTableModel", name := "dead", desc := "(I)Z" } : Jvm.MethodName)) ∈ lw_all := lw_g (lw_at lw_m1 200 rfl) rfl
theorem q221 : (Jvm.Cond.code ({ cls := "DescriptorTableModel", name := "dead", desc := "(I)Z" } : Jvm.MethodName) prog_3_method_2_code (2 : Nat) (Option.some Jvm.ClassFile.FieldType.boolean)) ∈ lw_all := lw_g (lw_at lw_m1 201 rfl) rfl
theorem q222 : (Jvm.Cond.methodLink "DescriptorTableModel" (59 : Nat) ({ cls := "DescriptorTableModel", name := "badName", desc := "(I)Z" } : Jvm.MethodName)) ∈ lw_all := lw_g (lw_at lw_m1 202 rfl) rfl
theorem q223 : (Jvm.Cond.static ({ cls := "DescriptorTableModel", name := "badName", desc := "(I)Z" } : Jvm.MethodName)) ∈ lw_all := lw_g (lw_at lw_m1 203 rfl) rfl
theorem q224 : (Jvm.Cond.code ({ cls := "DescriptorTableModel", name := "badName", desc := "(I)Z" } : Jvm.MethodName) prog_3_method_4_code (1 : Nat) (Option.some Jvm.ClassFile.FieldType.boolean)) ∈ lw_all := lw_g (lw_at lw_m1 204 rfl) rfl
theorem q225 : (Jvm.Cond.methodLink "DescriptorTableModel" (52 : Nat) ({ cls := "DescriptorTableModel", name := "leastFree", desc := "(I)I" } : Jvm.MethodName)) ∈ lw_all := lw_g (lw_at lw_m1 205 rfl) rfl
theorem q226 : (Jvm.Cond.privateMethod ({ cls := "DescriptorTableModel", name := "leastFree", desc := "(I)I" } : Jvm.MethodName)) ∈ lw_tbl := lw_at lw_m1 206 rfl
theorem q227 : (Jvm.Cond.instanceMethod ({ cls := "DescriptorTableModel", name := "leastFree", desc := "(I)I" } : Jvm.MethodName)) ∈ lw_all := lw_g (lw_at lw_m1 207 rfl) rfl
theorem q228 : (Jvm.Cond.code ({ cls := "DescriptorTableModel", name := "leastFree", desc := "(I)I" } : Jvm.MethodName) prog_3_method_8_code (3 : Nat) (Option.some Jvm.ClassFile.FieldType.int)) ∈ lw_all := lw_g (lw_at lw_m1 208 rfl) rfl
theorem q229 : (Jvm.Cond.methodLink "DescriptorTableModel" (62 : Nat) ({ cls := "DescriptorTableModel", name := "newFile", desc := "()I" } : Jvm.MethodName)) ∈ lw_all := lw_g (lw_at lw_m1 209 rfl) rfl
theorem q230 : (Jvm.Cond.privateMethod ({ cls := "DescriptorTableModel", name := "newFile", desc := "()I" } : Jvm.MethodName)) ∈ lw_tbl := lw_at lw_m1 210 rfl
theorem q231 : (Jvm.Cond.instanceMethod ({ cls := "DescriptorTableModel", name := "newFile", desc := "()I" } : Jvm.MethodName)) ∈ lw_all := lw_g (lw_at lw_m1 211 rfl) rfl
theorem q232 : (Jvm.Cond.code ({ cls := "DescriptorTableModel", name := "newFile", desc := "()I" } : Jvm.MethodName) prog_3_method_10_code (2 : Nat) (Option.some Jvm.ClassFile.FieldType.int)) ∈ lw_all := lw_g (lw_at lw_m1 212 rfl) rfl
theorem q233 : (Jvm.Cond.methodLink "DescriptorTableModel" (56 : Nat) ({ cls := "DescriptorTableModel", name := "isFile", desc := "(I)Z" } : Jvm.MethodName)) ∈ lw_all := lw_g (lw_at lw_m1 213 rfl) rfl
theorem q234 : (Jvm.Cond.privateMethod ({ cls := "DescriptorTableModel", name := "isFile", desc := "(I)Z" } : Jvm.MethodName)) ∈ lw_tbl := lw_at lw_m1 214 rfl
theorem q235 : (Jvm.Cond.instanceMethod ({ cls := "DescriptorTableModel", name := "isFile", desc := "(I)Z" } : Jvm.MethodName)) ∈ lw_all := lw_g (lw_at lw_m1 215 rfl) rfl
theorem q236 : (Jvm.Cond.code ({ cls := "DescriptorTableModel", name := "isFile", desc := "(I)Z" } : Jvm.MethodName) prog_3_method_7_code (3 : Nat) (Option.some Jvm.ClassFile.FieldType.boolean)) ∈ lw_all := lw_g (lw_at lw_m1 216 rfl) rfl
theorem q237 : (Jvm.Cond.methodLink "DescriptorTableModel" (48 : Nat) ({ cls := "DescriptorTableModel", name := "hasOpening", desc := "(II)Z" } : Jvm.MethodName)) ∈ lw_all := lw_g (lw_at lw_m1 217 rfl) rfl
theorem q238 : (Jvm.Cond.privateMethod ({ cls := "DescriptorTableModel", name := "hasOpening", desc := "(II)Z" } : Jvm.MethodName)) ∈ lw_tbl := lw_at lw_m1 218 rfl
theorem q239 : (Jvm.Cond.instanceMethod ({ cls := "DescriptorTableModel", name := "hasOpening", desc := "(II)Z" } : Jvm.MethodName)) ∈ lw_all := lw_g (lw_at lw_m1 219 rfl) rfl
theorem q240 : (Jvm.Cond.code ({ cls := "DescriptorTableModel", name := "hasOpening", desc := "(II)Z" } : Jvm.MethodName) prog_3_method_6_code (5 : Nat) (Option.some Jvm.ClassFile.FieldType.boolean)) ∈ lw_all := lw_g (lw_at lw_m1 220 rfl) rfl
theorem q241 : (Jvm.Cond.methodLink "DescriptorTableModel" (45 : Nat) ({ cls := "DescriptorTableModel", name := "opened", desc := "(I)Z" } : Jvm.MethodName)) ∈ lw_all := lw_g (lw_at lw_m1 221 rfl) rfl
theorem q242 : (Jvm.Cond.privateMethod ({ cls := "DescriptorTableModel", name := "opened", desc := "(I)Z" } : Jvm.MethodName)) ∈ lw_tbl := lw_at lw_m1 222 rfl
theorem q243 : (Jvm.Cond.instanceMethod ({ cls := "DescriptorTableModel", name := "opened", desc := "(I)Z" } : Jvm.MethodName)) ∈ lw_all := lw_g (lw_at lw_m1 223 rfl) rfl
theorem q244 : (Jvm.Cond.code ({ cls := "DescriptorTableModel", name := "opened", desc := "(I)Z" } : Jvm.MethodName) prog_3_method_5_code (3 : Nat) (Option.some Jvm.ClassFile.FieldType.boolean)) ∈ lw_all := lw_g (lw_at lw_m1 224 rfl) rfl
theorem q245 : (Jvm.Cond.methodLink "DescriptorTableModel" (66 : Nat) ({ cls := "DescriptorTableModel", name := "lead", desc := "(III)I" } : Jvm.MethodName)) ∈ lw_all := lw_g (lw_at lw_m1 225 rfl) rfl
theorem q246 : (Jvm.Cond.privateMethod ({ cls := "DescriptorTableModel", name := "lead", desc := "(III)I" } : Jvm.MethodName)) ∈ lw_tbl := lw_at lw_m1 226 rfl
theorem q247 : (Jvm.Cond.instanceMethod ({ cls := "DescriptorTableModel", name := "lead", desc := "(III)I" } : Jvm.MethodName)) ∈ lw_all := lw_g (lw_at lw_m1 227 rfl) rfl
theorem q248 : (Jvm.Cond.code ({ cls := "DescriptorTableModel", name := "lead", desc := "(III)I" } : Jvm.MethodName) prog_3_method_9_code (6 : Nat) (Option.some Jvm.ClassFile.FieldType.int)) ∈ lw_all := lw_g (lw_at lw_m1 228 rfl) rfl
theorem q250 : (Jvm.Cond.instanceMethod ({ cls := "DescriptorTableModel", name := "pipe", desc := "(I)I" } : Jvm.MethodName)) ∈ lw_all := lw_g (lw_at lw_m1 230 rfl) rfl
theorem q251 : (Jvm.Cond.selects "DescriptorTableModel" ({ cls := "DescriptorTableModel", name := "pipe", desc := "(I)I" } : Jvm.MethodName) ({ cls := "DescriptorTableModel", name := "pipe", desc := "(I)I" } : Jvm.MethodName)) ∈ lw_all := lw_g (lw_at lw_m1 231 rfl) rfl
theorem q252 : (Jvm.Cond.code ({ cls := "DescriptorTableModel", name := "pipe", desc := "(I)I" } : Jvm.MethodName) prog_3_method_13_code (5 : Nat) (Option.some Jvm.ClassFile.FieldType.int)) ∈ lw_all := lw_g (lw_at lw_m1 232 rfl) rfl
theorem q253 : (Jvm.Cond.methodLink "DescriptorTableModel" (70 : Nat) ({ cls := "DescriptorTableModel", name := "freeDescriptors", desc := "(I)I" } : Jvm.MethodName)) ∈ lw_all := lw_g (lw_at lw_m1 233 rfl) rfl
theorem q254 : (Jvm.Cond.privateMethod ({ cls := "DescriptorTableModel", name := "freeDescriptors", desc := "(I)I" } : Jvm.MethodName)) ∈ lw_tbl := lw_at lw_m1 234 rfl
theorem q255 : (Jvm.Cond.instanceMethod ({ cls := "DescriptorTableModel", name := "freeDescriptors", desc := "(I)I" } : Jvm.MethodName)) ∈ lw_all := lw_g (lw_at lw_m1 235 rfl) rfl
theorem q256 : (Jvm.Cond.code ({ cls := "DescriptorTableModel", name := "freeDescriptors", desc := "(I)I" } : Jvm.MethodName) prog_3_method_12_code (4 : Nat) (Option.some Jvm.ClassFile.FieldType.int)) ∈ lw_all := lw_g (lw_at lw_m1 236 rfl) rfl
theorem q258 : (Jvm.Cond.instanceMethod ({ cls := "DescriptorTableModel", name := "dup", desc := "(II)I" } : Jvm.MethodName)) ∈ lw_all := lw_g (lw_at lw_m1 238 rfl) rfl
theorem q259 : (Jvm.Cond.selects "DescriptorTableModel" ({ cls := "DescriptorTableModel", name := "dup", desc := "(II)I" } : Jvm.MethodName) ({ cls := "DescriptorTableModel", name := "dup", desc := "(II)I" } : Jvm.MethodName)) ∈ lw_all := lw_g (lw_at lw_m1 239 rfl) rfl
theorem q260 : (Jvm.Cond.code ({ cls := "DescriptorTableModel", name := "dup", desc := "(II)I" } : Jvm.MethodName) prog_3_method_14_code (4 : Nat) (Option.some Jvm.ClassFile.FieldType.int)) ∈ lw_all := lw_g (lw_at lw_m2 0 rfl) rfl
theorem q261 : (Jvm.Cond.methodLink "DescriptorTableModel" (73 : Nat) ({ cls := "DescriptorTableModel", name := "free", desc := "(II)Z" } : Jvm.MethodName)) ∈ lw_all := lw_g (lw_at lw_m2 1 rfl) rfl
theorem q262 : (Jvm.Cond.privateMethod ({ cls := "DescriptorTableModel", name := "free", desc := "(II)Z" } : Jvm.MethodName)) ∈ lw_tbl := lw_at lw_m2 2 rfl
theorem q263 : (Jvm.Cond.instanceMethod ({ cls := "DescriptorTableModel", name := "free", desc := "(II)Z" } : Jvm.MethodName)) ∈ lw_all := lw_g (lw_at lw_m2 3 rfl) rfl
theorem q264 : (Jvm.Cond.code ({ cls := "DescriptorTableModel", name := "free", desc := "(II)Z" } : Jvm.MethodName) prog_3_method_3_code (3 : Nat) (Option.some Jvm.ClassFile.FieldType.boolean)) ∈ lw_all := lw_g (lw_at lw_m2 4 rfl) rfl
theorem q266 : (Jvm.Cond.instanceMethod ({ cls := "DescriptorTableModel", name := "close", desc := "(II)I" } : Jvm.MethodName)) ∈ lw_all := lw_g (lw_at lw_m2 6 rfl) rfl
theorem q267 : (Jvm.Cond.selects "DescriptorTableModel" ({ cls := "DescriptorTableModel", name := "close", desc := "(II)I" } : Jvm.MethodName) ({ cls := "DescriptorTableModel", name := "close", desc := "(II)I" } : Jvm.MethodName)) ∈ lw_all := lw_g (lw_at lw_m2 7 rfl) rfl
theorem q268 : (Jvm.Cond.code ({ cls := "DescriptorTableModel", name := "close", desc := "(II)I" } : Jvm.MethodName) prog_3_method_15_code (3 : Nat) (Option.some Jvm.ClassFile.FieldType.int)) ∈ lw_all := lw_g (lw_at lw_m2 8 rfl) rfl
theorem q270 : (Jvm.Cond.instanceMethod ({ cls := "DescriptorTableModel", name := "fork", desc := "(I)I" } : Jvm.MethodName)) ∈ lw_all := lw_g (lw_at lw_m2 10 rfl) rfl
theorem q271 : (Jvm.Cond.selects "DescriptorTableModel" ({ cls := "DescriptorTableModel", name := "fork", desc := "(I)I" } : Jvm.MethodName) ({ cls := "DescriptorTableModel", name := "fork", desc := "(I)I" } : Jvm.MethodName)) ∈ lw_all := lw_g (lw_at lw_m2 11 rfl) rfl
theorem q272 : (Jvm.Cond.code ({ cls := "DescriptorTableModel", name := "fork", desc := "(I)I" } : Jvm.MethodName) prog_3_method_16_code (4 : Nat) (Option.some Jvm.ClassFile.FieldType.int)) ∈ lw_all := lw_g (lw_at lw_m2 12 rfl) rfl
theorem q274 : (Jvm.Cond.instanceMethod ({ cls := "DescriptorTableModel", name := "exit", desc := "(I)I" } : Jvm.MethodName)) ∈ lw_all := lw_g (lw_at lw_m2 14 rfl) rfl
theorem q275 : (Jvm.Cond.selects "DescriptorTableModel" ({ cls := "DescriptorTableModel", name := "exit", desc := "(I)I" } : Jvm.MethodName) ({ cls := "DescriptorTableModel", name := "exit", desc := "(I)I" } : Jvm.MethodName)) ∈ lw_all := lw_g (lw_at lw_m2 15 rfl) rfl
theorem q276 : (Jvm.Cond.code ({ cls := "DescriptorTableModel", name := "exit", desc := "(I)I" } : Jvm.MethodName) prog_3_method_17_code (4 : Nat) (Option.some Jvm.ClassFile.FieldType.int)) ∈ lw_all := lw_g (lw_at lw_m2 16 rfl) rfl
theorem q278 : (Jvm.Cond.instanceMethod ({ cls := "DescriptorTableModel", name := "write", desc := "(III)I" } : Jvm.MethodName)) ∈ lw_all := lw_g (lw_at lw_m2 18 rfl) rfl
theorem q279 : (Jvm.Cond.selects "DescriptorTableModel" ({ cls := "DescriptorTableModel", name := "write", desc := "(III)I" } : Jvm.MethodName) ({ cls := "DescriptorTableModel", name := "write", desc := "(III)I" } : Jvm.MethodName)) ∈ lw_all := lw_g (lw_at lw_m2 19 rfl) rfl
theorem q280 : (Jvm.Cond.code ({ cls := "DescriptorTableModel", name := "write", desc := "(III)I" } : Jvm.MethodName) prog_3_method_18_code (6 : Nat) (Option.some Jvm.ClassFile.FieldType.int)) ∈ lw_all := lw_g (lw_at lw_m2 20 rfl) rfl
theorem q282 : (Jvm.Cond.instanceMethod ({ cls := "DescriptorTableModel", name := "read", desc := "(II)I" } : Jvm.MethodName)) ∈ lw_all := lw_g (lw_at lw_m2 22 rfl) rfl
theorem q283 : (Jvm.Cond.selects "DescriptorTableModel" ({ cls := "DescriptorTableModel", name := "read", desc := "(II)I" } : Jvm.MethodName) ({ cls := "DescriptorTableModel", name := "read", desc := "(II)I" } : Jvm.MethodName)) ∈ lw_all := lw_g (lw_at lw_m2 23 rfl) rfl
theorem q284 : (Jvm.Cond.code ({ cls := "DescriptorTableModel", name := "read", desc := "(II)I" } : Jvm.MethodName) prog_3_method_19_code (7 : Nat) (Option.some Jvm.ClassFile.FieldType.int)) ∈ lw_all := lw_g (lw_at lw_m2 24 rfl) rfl
theorem q286 : (Jvm.Cond.instanceMethod ({ cls := "DescriptorTableModel", name := "seek", desc := "(III)I" } : Jvm.MethodName)) ∈ lw_all := lw_g (lw_at lw_m2 26 rfl) rfl
theorem q287 : (Jvm.Cond.selects "DescriptorTableModel" ({ cls := "DescriptorTableModel", name := "seek", desc := "(III)I" } : Jvm.MethodName) ({ cls := "DescriptorTableModel", name := "seek", desc := "(III)I" } : Jvm.MethodName)) ∈ lw_all := lw_g (lw_at lw_m2 27 rfl) rfl
theorem q288 : (Jvm.Cond.code ({ cls := "DescriptorTableModel", name := "seek", desc := "(III)I" } : Jvm.MethodName) prog_3_method_20_code (5 : Nat) (Option.some Jvm.ClassFile.FieldType.int)) ∈ lw_all := lw_g (lw_at lw_m2 28 rfl) rfl
theorem q290 : (Jvm.Cond.instanceMethod ({ cls := "DescriptorTableModel", name := "link", desc := "(II)I" } : Jvm.MethodName)) ∈ lw_all := lw_g (lw_at lw_m2 30 rfl) rfl
theorem q291 : (Jvm.Cond.selects "DescriptorTableModel" ({ cls := "DescriptorTableModel", name := "link", desc := "(II)I" } : Jvm.MethodName) ({ cls := "DescriptorTableModel", name := "link", desc := "(II)I" } : Jvm.MethodName)) ∈ lw_all := lw_g (lw_at lw_m2 31 rfl) rfl
theorem q292 : (Jvm.Cond.code ({ cls := "DescriptorTableModel", name := "link", desc := "(II)I" } : Jvm.MethodName) prog_3_method_21_code (3 : Nat) (Option.some Jvm.ClassFile.FieldType.int)) ∈ lw_all := lw_g (lw_at lw_m2 32 rfl) rfl
theorem q294 : (Jvm.Cond.instanceMethod ({ cls := "DescriptorTableModel", name := "unlink", desc := "(I)I" } : Jvm.MethodName)) ∈ lw_all := lw_g (lw_at lw_m2 34 rfl) rfl
theorem q295 : (Jvm.Cond.selects "DescriptorTableModel" ({ cls := "DescriptorTableModel", name := "unlink", desc := "(I)I" } : Jvm.MethodName) ({ cls := "DescriptorTableModel", name := "unlink", desc := "(I)I" } : Jvm.MethodName)) ∈ lw_all := lw_g (lw_at lw_m2 35 rfl) rfl
theorem q296 : (Jvm.Cond.code ({ cls := "DescriptorTableModel", name := "unlink", desc := "(I)I" } : Jvm.MethodName) prog_3_method_22_code (2 : Nat) (Option.some Jvm.ClassFile.FieldType.int)) ∈ lw_all := lw_g (lw_at lw_m2 36 rfl) rfl
theorem q298 : (Jvm.Cond.instanceMethod ({ cls := "DescriptorTableModel", name := "counts", desc := "()I" } : Jvm.MethodName)) ∈ lw_all := lw_g (lw_at lw_m2 38 rfl) rfl
theorem q299 : (Jvm.Cond.selects "DescriptorTableModel" ({ cls := "DescriptorTableModel", name := "counts", desc := "()I" } : Jvm.MethodName) ({ cls := "DescriptorTableModel", name := "counts", desc := "()I" } : Jvm.MethodName)) ∈ lw_all := lw_g (lw_at lw_m2 39 rfl) rfl
theorem q300 : (Jvm.Cond.code ({ cls := "DescriptorTableModel", name := "counts", desc := "()I" } : Jvm.MethodName) prog_3_method_23_code (5 : Nat) (Option.some Jvm.ClassFile.FieldType.int)) ∈ lw_all := lw_g (lw_at lw_m2 40 rfl) rfl
theorem in_X1 : ∀ w ∈ wsX10, w ∈ lw_all := lw_in wsX10 [193, 195, 197, 199, 201, 203, 205, 207, 209, 211] (by decide +kernel) (by decide +kernel)
end
section
/-! java/lang/Object -/
set_option maxRecDepth 100000
def RJ0 : String := "java/lang/Object"
abbrev cJ0_init : ByteArray := object_method_1_code
def yJ0_init : MethodName := ⟨RJ0, "<init>", "()V"⟩
theorem dJ0_init_0 : decode cJ0_init 0 = .ok (.return_, 1) := by decide +kernel
theorem q29 : (Jvm.Cond.instanceMethod ({ cls := "java/lang/Object", name := "<init>", desc := "()V" } : Jvm.MethodName)) ∈ lw_all := lw_g (lw_at lw_m1 9 rfl) rfl
theorem q30 : (Jvm.Cond.code ({ cls := "java/lang/Object", name := "<init>", desc := "()V" } : Jvm.MethodName) object_method_1_code (1 : Nat) (Option.none : Option Jvm.ClassFile.FieldType)) ∈ lw_all := lw_g (lw_at lw_m1 10 rfl) rfl
theorem q80 : (Jvm.Cond.arrayClass Jvm.ClassFile.FieldType.boolean) ∈ lw_all := lw_g (lw_at lw_m1 60 rfl) rfl
set_option maxRecDepth 100000
theorem q81 : (Jvm.Cond.arrayClass Jvm.ClassFile.FieldType.int) ∈ lw_all := lw_g (lw_at lw_m1 61 rfl) rfl
theorem q20 : (Jvm.Cond.initialized "DescriptorTableLaw") ∈ lw_all := lw_g (lw_at lw_m1 0 rfl) rfl
set_option maxRecDepth 100000
theorem q23 : (Jvm.Cond.classLink "DescriptorTableLaw" (7 : Nat) "DescriptorTable") ∈ lw_all := lw_g (lw_at lw_m1 3 rfl) rfl
theorem q25 : (Jvm.Cond.methodLink "DescriptorTableLaw" (9 : Nat) ({ cls := "DescriptorTable", name := "<init>", desc := "()V" } : Jvm.MethodName)) ∈ lw_all := lw_g (lw_at lw_m1 5 rfl) rfl
theorem q82 : (Jvm.Cond.methodLink "DescriptorTableLaw" (13 : Nat) ({ cls := "DescriptorTable", name := "open", desc := "(II)I" } : Jvm.MethodName)) ∈ lw_all := lw_g (lw_at lw_m1 62 rfl) rfl
theorem q105 : (Jvm.Cond.methodLink "DescriptorTableLaw" (18 : Nat) ({ cls := "DescriptorTable", name := "pipe", desc := "(I)I" } : Jvm.MethodName)) ∈ lw_all := lw_g (lw_at lw_m1 85 rfl) rfl
theorem q113 : (Jvm.Cond.methodLink "DescriptorTableLaw" (23 : Nat) ({ cls := "DescriptorTable", name := "dup", desc := "(II)I" } : Jvm.MethodName)) ∈ lw_all := lw_g (lw_at lw_m1 93 rfl) rfl
theorem q121 : (Jvm.Cond.methodLink "DescriptorTableLaw" (27 : Nat) ({ cls := "DescriptorTable", name := "close", desc := "(II)I" } : Jvm.MethodName)) ∈ lw_all := lw_g (lw_at lw_m1 101 rfl) rfl
theorem q129 : (Jvm.Cond.methodLink "DescriptorTableLaw" (31 : Nat) ({ cls := "DescriptorTable", name := "fork", desc := "(I)I" } : Jvm.MethodName)) ∈ lw_all := lw_g (lw_at lw_m1 109 rfl) rfl
theorem q133 : (Jvm.Cond.methodLink "DescriptorTableLaw" (35 : Nat) ({ cls := "DescriptorTable", name := "exit", desc := "(I)I" } : Jvm.MethodName)) ∈ lw_all := lw_g (lw_at lw_m1 113 rfl) rfl
theorem q137 : (Jvm.Cond.methodLink "DescriptorTableLaw" (39 : Nat) ({ cls := "DescriptorTable", name := "write", desc := "(III)I" } : Jvm.MethodName)) ∈ lw_all := lw_g (lw_at lw_m1 117 rfl) rfl
theorem q149 : (Jvm.Cond.methodLink "DescriptorTableLaw" (44 : Nat) ({ cls := "DescriptorTable", name := "read", desc := "(II)I" } : Jvm.MethodName)) ∈ lw_all := lw_g (lw_at lw_m1 129 rfl) rfl
theorem q161 : (Jvm.Cond.methodLink "DescriptorTableLaw" (48 : Nat) ({ cls := "DescriptorTable", name := "seek", desc := "(III)I" } : Jvm.MethodName)) ∈ lw_all := lw_g (lw_at lw_m1 141 rfl) rfl
theorem q165 : (Jvm.Cond.methodLink "DescriptorTableLaw" (52 : Nat) ({ cls := "DescriptorTable", name := "link", desc := "(II)I" } : Jvm.MethodName)) ∈ lw_all := lw_g (lw_at lw_m1 145 rfl) rfl
theorem q169 : (Jvm.Cond.methodLink "DescriptorTableLaw" (56 : Nat) ({ cls := "DescriptorTable", name := "unlink", desc := "(I)I" } : Jvm.MethodName)) ∈ lw_all := lw_g (lw_at lw_m1 149 rfl) rfl
theorem q173 : (Jvm.Cond.methodLink "DescriptorTableLaw" (60 : Nat) ({ cls := "DescriptorTable", name := "counts", desc := "()I" } : Jvm.MethodName)) ∈ lw_all := lw_g (lw_at lw_m1 153 rfl) rfl
theorem q177 : (Jvm.Cond.classLink "DescriptorTableLaw" (10 : Nat) "DescriptorTableModel") ∈ lw_all := lw_g (lw_at lw_m1 157 rfl) rfl
theorem q179 : (Jvm.Cond.methodLink "DescriptorTableLaw" (12 : Nat) ({ cls := "DescriptorTableModel", name := "<init>", desc := "()V" } : Jvm.MethodName)) ∈ lw_all := lw_g (lw_at lw_m1 159 rfl) rfl
theorem q214 : (Jvm.Cond.methodLink "DescriptorTableLaw" (17 : Nat) ({ cls := "DescriptorTableModel", name := "open", desc := "(II)I" } : Jvm.MethodName)) ∈ lw_all := lw_g (lw_at lw_m1 194 rfl) rfl
theorem q249 : (Jvm.Cond.methodLink "DescriptorTableLaw" (22 : Nat) ({ cls := "DescriptorTableModel", name := "pipe", desc := "(I)I" } : Jvm.MethodName)) ∈ lw_all := lw_g (lw_at lw_m1 229 rfl) rfl
theorem q257 : (Jvm.Cond.methodLink "DescriptorTableLaw" (26 : Nat) ({ cls := "DescriptorTableModel", name := "dup", desc := "(II)I" } : Jvm.MethodName)) ∈ lw_all := lw_g (lw_at lw_m1 237 rfl) rfl
theorem q265 : (Jvm.Cond.methodLink "DescriptorTableLaw" (30 : Nat) ({ cls := "DescriptorTableModel", name := "close", desc := "(II)I" } : Jvm.MethodName)) ∈ lw_all := lw_g (lw_at lw_m2 5 rfl) rfl
theorem q269 : (Jvm.Cond.methodLink "DescriptorTableLaw" (34 : Nat) ({ cls := "DescriptorTableModel", name := "fork", desc := "(I)I" } : Jvm.MethodName)) ∈ lw_all := lw_g (lw_at lw_m2 9 rfl) rfl
theorem q273 : (Jvm.Cond.methodLink "DescriptorTableLaw" (38 : Nat) ({ cls := "DescriptorTableModel", name := "exit", desc := "(I)I" } : Jvm.MethodName)) ∈ lw_all := lw_g (lw_at lw_m2 13 rfl) rfl
theorem q277 : (Jvm.Cond.methodLink "DescriptorTableLaw" (43 : Nat) ({ cls := "DescriptorTableModel", name := "write", desc := "(III)I" } : Jvm.MethodName)) ∈ lw_all := lw_g (lw_at lw_m2 17 rfl) rfl
theorem q281 : (Jvm.Cond.methodLink "DescriptorTableLaw" (47 : Nat) ({ cls := "DescriptorTableModel", name := "read", desc := "(II)I" } : Jvm.MethodName)) ∈ lw_all := lw_g (lw_at lw_m2 21 rfl) rfl
theorem q285 : (Jvm.Cond.methodLink "DescriptorTableLaw" (51 : Nat) ({ cls := "DescriptorTableModel", name := "seek", desc := "(III)I" } : Jvm.MethodName)) ∈ lw_all := lw_g (lw_at lw_m2 25 rfl) rfl
theorem q289 : (Jvm.Cond.methodLink "DescriptorTableLaw" (55 : Nat) ({ cls := "DescriptorTableModel", name := "link", desc := "(II)I" } : Jvm.MethodName)) ∈ lw_all := lw_g (lw_at lw_m2 29 rfl) rfl
theorem q293 : (Jvm.Cond.methodLink "DescriptorTableLaw" (59 : Nat) ({ cls := "DescriptorTableModel", name := "unlink", desc := "(I)I" } : Jvm.MethodName)) ∈ lw_all := lw_g (lw_at lw_m2 33 rfl) rfl
theorem q297 : (Jvm.Cond.methodLink "DescriptorTableLaw" (64 : Nat) ({ cls := "DescriptorTableModel", name := "counts", desc := "()I" } : Jvm.MethodName)) ∈ lw_all := lw_g (lw_at lw_m2 37 rfl) rfl
end
section
/-! the base: ints by their values, a class's state as a table of numbers, the world of one object, contracts over it, rows over them -/
set_option maxRecDepth 100000
def iI (z : Int) : Int32 := Int32.ofInt z
theorem ii_add (x y : Int) : iI x + iI y = iI (x + y) := (Int32.ofInt_add x y).symm
theorem ii_sub (x y : Int) : iI x - iI y = iI (x - y) := (Int32.ofInt_sub x y).symm
theorem ii_mul (x y : Int) : iI x * iI y = iI (x * y) := (Int32.ofInt_mul x y).symm
theorem ii_of (x : Int32) : iI x.toInt = x := Int32.ofInt_toInt x
abbrev ii_r (z : Int) : Prop := -2147483648 ≤ z ∧ z ≤ 2147483647
theorem ii_to {z : Int} (h : ii_r z) : (iI z).toInt = z := Int32.toInt_ofInt_of_le (by have := h.1; omega) (by have := h.2; omega)
theorem ii_rof (x : Int32) : ii_r x.toInt := by
  have h1 := Int32.le_toInt x
  have h2 := Int32.toInt_lt x
  constructor <;> omega
theorem ii_lt {x y : Int} (hx : ii_r x) (hy : ii_r y) : iI x < iI y ↔ x < y := by rw [Int32.lt_iff_toInt_lt, ii_to hx, ii_to hy]
theorem ii_le {x y : Int} (hx : ii_r x) (hy : ii_r y) : iI x ≤ iI y ↔ x ≤ y := by rw [Int32.le_iff_toInt_le, ii_to hx, ii_to hy]
theorem ii_eq {x y : Int} (hx : ii_r x) (hy : ii_r y) : iI x = iI y ↔ x = y := by rw [← Int32.toInt_inj, ii_to hx, ii_to hy]
theorem ii_0 : iI 0 = 0 := by decide
theorem ii_1 : iI 1 = 1 := by decide
theorem ii_r0 : ii_r 0 := by decide
theorem ii_cl {z : Int} (h0 : 0 ≤ z) (h1 : z ≤ 2147483647) : (iI z).toNatClampNeg = z.toNat := by
  rw [← Int32.toNat_toInt, ii_to ⟨by omega, h1⟩]
theorem ii_in {z : Int} {n : Nat} (h0 : 0 ≤ z) (h1 : z < n) (hn : n ≤ 2147483647) : vp_in (iI z) n := by
  rw [vp_in_iff, ii_to ⟨by omega, by omega⟩]
  exact ⟨h0, h1⟩
/-- a state: array's number, place, value -/
abbrev oS : Type := Nat → Int → Int
def su (X : oS) (k : Nat) (i v : Int) : oS := fun k' i' => if k' = k ∧ i' = i then v else X k' i'
theorem su_k {X : oS} {k k' : Nat} {i v j : Int} (h : k' ≠ k) : su X k i v k' j = X k' j := by
  unfold su; rw [if_neg (fun q => h q.1)]
theorem su_s {X : oS} {k : Nat} {i v : Int} : su X k i v k i = v := by
  unfold su; rw [if_pos ⟨rfl, rfl⟩]
theorem su_n {X : oS} {k : Nat} {i v j : Int} (h : j ≠ i) : su X k i v k j = X k j := by
  unfold su; rw [if_neg (fun q => h q.2)]
/-- a class: its number, whether a whole number stands ahead of the arrays, its arrays (boolean, length) -/
abbrev oD : Type := Nat × Bool × List (Bool × Nat)
def dX : oD := (0, true, [(true, 4), (false, 24), (false, 24), (false, 24), (false, 24), (false, 24), (false, 4), (false, 28), (false, 28), (false, 224), (true, 24), (true, 24), (false, 24), (false, 24), (false, 144)])
def dM : oD := (1, false, [(true, 4), (false, 24), (false, 24), (false, 24), (false, 24), (false, 4), (false, 28), (false, 224), (false, 24), (false, 144)])
abbrev vwCl : List vw_C := [(RX0, TX0, 16), (RX1, TX1, 10)]
def oA (cI cZ : ClassId) (a : Nat → Nat) (X : oS) : Nat → List (Bool × Nat) → va_W
  | _, [] => []
  | k, q :: t => (a k, .inl (if q.1 = true then cZ else cI, q.2, .inl (fun j : Nat => iI (X k (j : Int))))) :: oA cI cZ a X (k + 1) t
def oR (a : Nat → Nat) : Nat → List (Bool × Nat) → List Value
  | _, [] => []
  | k, _ :: t => .ref (a k) :: oR a (k + 1) t
def oP (b : Bool) (X : oS) : List Value := match b with
  | true => [.int (iI (X 0 0))]
  | false => []
def oW (cd : oD) (cI cZ : ClassId) (h : Nat) (a : Nat → Nat) (X : oS) : va_W := (h, .inr (cd.1, oP cd.2.1 X ++ oR a 1 cd.2.2)) :: oA cI cZ a X 1 cd.2.2
theorem oA_get {cI cZ : ClassId} {a : Nat → Nat} {X : oS} : ∀ (sh : List (Bool × Nat)) (k0 k : Nat) (b : Bool) (n : Nat), sh[k]? = some (b, n) → (oA cI cZ a X k0 sh)[k]? = some (a (k0 + k), .inl (if b = true then cZ else cI, n, .inl (fun j : Nat => iI (X (k0 + k) (j : Int)))))
  | [], _, _, _, _, h => by simp at h
  | q :: t, k0, 0, b, n, h => by
    rw [List.getElem?_cons_zero] at h
    cases h
    rfl
  | q :: t, k0, k + 1, b, n, h => by
    rw [List.getElem?_cons_succ] at h
    have ih := oA_get (cI := cI) (cZ := cZ) (a := a) (X := X) t (k0 + 1) k b n h
    rw [show k0 + 1 + k = k0 + (k + 1) by omega] at ih
    exact ih
theorem oA_su {cI cZ : ClassId} {a : Nat → Nat} {X : oS} {kk : Nat} {i v : Int} : ∀ (sh : List (Bool × Nat)) (k0 : Nat), kk < k0 → oA cI cZ a (su X kk i v) k0 sh = oA cI cZ a X k0 sh
  | [], _, _ => rfl
  | q :: t, k0, h => by
    unfold oA
    rw [oA_su t (k0 + 1) (by omega)]
    congr 6
    funext j
    rw [su_k (by omega)]
theorem oA_set {cI cZ : ClassId} {a : Nat → Nat} {X : oS} {i v : Int} (hi : 0 ≤ i) : ∀ (sh : List (Bool × Nat)) (k0 k : Nat) (b : Bool) (n : Nat), sh[k]? = some (b, n) → (oA cI cZ a X k0 sh).set k (a (k0 + k), .inl (if b = true then cZ else cI, n, .inl (upd (fun j : Nat => iI (X (k0 + k) (j : Int))) i.toNat (iI v)))) = oA cI cZ a (su X (k0 + k) i v) k0 sh
  | [], _, _, _, _, h => by simp at h
  | q :: t, k0, 0, b, n, h => by
    rw [List.getElem?_cons_zero] at h
    cases h
    show _ :: oA cI cZ a X (k0 + 1) t = _ :: oA cI cZ a (su X (k0 + 0) i v) (k0 + 1) t
    rw [oA_su t (k0 + 1) (by omega)]
    congr 6
    funext j
    show upd _ _ _ j = iI (su X k0 i v k0 j)
    unfold upd
    by_cases h : j = i.toNat
    · rw [if_pos h, show (j : Int) = i by omega, su_s]
    · rw [if_neg h, su_n (by omega)]
      rfl
  | q :: t, k0, k + 1, b, n, h => by
    rw [List.getElem?_cons_succ] at h
    have ih := oA_set (cI := cI) (cZ := cZ) (a := a) (X := X) (i := i) (v := v) hi t (k0 + 1) k b n h
    rw [show k0 + 1 + k = k0 + (k + 1) by omega] at ih
    show _ :: (oA cI cZ a X (k0 + 1) t).set k _ = _ :: oA cI cZ a (su X (k0 + (k + 1)) i v) (k0 + 1) t
    rw [ih]
    congr 6
    funext j
    rw [su_k (by omega)]
/-- what a method stands on -/
def mE (p : Program) (s : State) (m : MethodId) (args : Array Value) (meth : Method) (c : Code) (cc : ByteArray) (nL : Nat) (ret : Option FieldType) (own : String) : Prop :=
  p.tables.exec = Jvm.exec ∧ c.code = cc ∧ c.maxLocals = nL ∧ s.vm.findClass own = some m.cls ∧ (∀ w ∈ lw_all, w.before args s = true) ∧ meth.sig.returnType = ret ∧ meth.locks = false
/-- the world of one object -/
def mW (cd : oD) (D : va_G) (cI cZ : ClassId) (h : Nat) (a : Nat → Nat) (A : Nat → Prop) (s : State) (X : oS) (H : Heap) (locs : List Loc) : Prop :=
  va_K D vwCl [(cI, .int), (cZ, .boolean)] s ∧ va_P D vwCl (oW cd cI cZ h a X) H ∧ va_D A (oW cd cI cZ h a X) ∧ va_S A s.heap H locs ∧ ∀ q, s.heap.size ≤ q → A q
def oQc (cd : oD) (D : va_G) (cI cZ : ClassId) (h : Nat) (a : Nat → Nat) (A : Nat → Prop) (post : Int → oS → Prop) : Array Value → State → Outcome → State → Prop :=
  va_Qi (fun (r : Int32) (u : Int × oS) => r = iI u.1 ∧ post u.1 u.2) (fun u t => va_P D vwCl (oW cd cI cZ h a u.2) t.heap ∧ va_K D vwCl [(cI, .int), (cZ, .boolean)] t ∧ va_D A (oW cd cI cZ h a u.2)) A
def oQv (cd : oD) (D : va_G) (cI cZ : ClassId) (h : Nat) (a : Nat → Nat) (A : Nat → Prop) (post : oS → Prop) : Array Value → State → Outcome → State → Prop :=
  va_Qv (fun (u : oS) => post u) (fun u t => va_P D vwCl (oW cd cI cZ h a u) t.heap ∧ va_K D vwCl [(cI, .int), (cZ, .boolean)] t ∧ va_D A (oW cd cI cZ h a u)) A
abbrev oPc (cd : oD) (D : va_G) (cI cZ : ClassId) (h : Nat) (a : Nat → Nat) (X : oS) (As : List Value) (sz : Nat) : Array Value → State → Prop :=
  va_Pc (.ref h :: As) (fun U => U.heap.size = sz ∧ va_P D vwCl (oW cd cI cZ h a X) U.heap ∧ va_K D vwCl [(cI, .int), (cZ, .boolean)] U ∧ va_D (fun _ => True) (oW cd cI cZ h a X))
/-- a contract over one object: an int answer (or a boolean) -/
def oC (cd : oD) (l : Launch) (y : MethodName) (cc : ByteArray) (nL : Nat) (ret : Option FieldType) (fr lo : Nat) (D : va_G) (cI cZ : ClassId) (h : Nat) (a : Nat → Nat) (X : oS) (As : List Value) (post : Int → oS → Prop) : Prop :=
  ∀ sz : Nat, Met l y (ws_ y cc nL ret) ({ frames := fr, cells := 0, slots := 0, locals := lo }) (oPc cd D cI cZ h a X As sz) (oQc cd D cI cZ h a (va_A (oW cd cI cZ h a X) sz) post) 0 0 (va_A (oW cd cI cZ h a X) sz)
/-- .. no answer -/
def oCv (cd : oD) (l : Launch) (y : MethodName) (cc : ByteArray) (nL : Nat) (fr lo : Nat) (D : va_G) (cI cZ : ClassId) (h : Nat) (a : Nat → Nat) (X : oS) (As : List Value) (post : oS → Prop) : Prop :=
  ∀ sz : Nat, Met l y (ws_ y cc nL none) ({ frames := fr, cells := 0, slots := 0, locals := lo }) (oPc cd D cI cZ h a X As sz) (oQv cd D cI cZ h a (va_A (oW cd cI cZ h a X) sz) post) 0 0 (va_A (oW cd cI cZ h a X) sz)
/-- .. of a static method that sees no cell -/
def oCs (l : Launch) (y : MethodName) (cc : ByteArray) (nL : Nat) (ret : Option FieldType) (fr lo : Nat) (As : List Value) (post : Int → Prop) : Prop :=
  Met l y (ws_ y cc nL ret) ({ frames := fr, cells := 0, slots := 0, locals := lo }) (va_Pc As (fun _ => True)) (va_Qi (fun (r : Int32) (u : Int) => r = iI u ∧ post u) (fun _ _ => True) (fun _ => False)) 0 0 (fun _ => False)
theorem oC_of {cd : oD} {l : Launch} {y : MethodName} {cc : ByteArray} {nL : Nat} {ret : Option FieldType} {fr lo : Nat} {D : va_G} {cI cZ : ClassId} {h : Nat} {a : Nat → Nat} {X : oS} {As : List Value} {post : Int → oS → Prop} {own : String} {lv : List (Nat × Value)}
    (hy : plainName y.cls = true) (hcls : y.cls = own) (hlen : (lg_sl (.ref h :: As)).length ≤ nL) (hlv : lv_args 0 (.ref h :: As) = lv)
    (body : ∀ (p : Program) (e : Env) (s : State) (m : MethodId) (below : List Frame) (meth : Method) (c : Code) (ls : Array Slot) (A : Nat → Prop), mE p s m (Value.ref h :: As).toArray meth c cc nL ret own → mW cd D cI cZ h a A s X s.heap [] → lv_has ls nL lv →
      W p l e ({ frames := fr, cells := 0, slots := 0, locals := lo }) s m (Value.ref h :: As).toArray below meth c s.heap [] 0 0 (MQ below (oQc cd D cI cZ h a A post) (Value.ref h :: As).toArray s 0 0 A) (F0 m 0 ls [])) : oC cd l y cc nL ret fr lo D cI cZ h a X As post := by
  intro sz
  refine Met.ofW (cc := cc) (maxL := nL) (ret := ret) hy rfl ?_
  intro p e s m args below meth c s₁ B hml hv
  obtain ⟨rfl, hsz, hP, hK, hD0⟩ := hv
  have hts := atoms_spec (ws := ws_ y cc nL ret) B.pre
  have hts : ∀ w ∈ lw_all, w.before _ s = true := fun w h => hts w (List.mem_cons_of_mem _ h)
  have hown : s.vm.findClass own = some m.cls := hcls ▸ findClass_of_methodNamed B.named
  subst hsz
  have hl := lv_entry (Value.ref h :: As) (n := nL) hlen
  rw [lg_entry_eq]
  subst hlv
  exact body p e s m below meth c _ _ ⟨B.exec, B.bytes, hml, hown, hts, B.returns, B.notSynchronized⟩ ⟨hK, hP, hD0.self, va_S.rf, fun q hq => Or.inr hq⟩ hl
theorem oCv_of {cd : oD} {l : Launch} {y : MethodName} {cc : ByteArray} {nL : Nat} {fr lo : Nat} {D : va_G} {cI cZ : ClassId} {h : Nat} {a : Nat → Nat} {X : oS} {As : List Value} {post : oS → Prop} {own : String} {lv : List (Nat × Value)}
    (hy : plainName y.cls = true) (hcls : y.cls = own) (hlen : (lg_sl (.ref h :: As)).length ≤ nL) (hlv : lv_args 0 (.ref h :: As) = lv)
    (body : ∀ (p : Program) (e : Env) (s : State) (m : MethodId) (below : List Frame) (meth : Method) (c : Code) (ls : Array Slot) (A : Nat → Prop), mE p s m (Value.ref h :: As).toArray meth c cc nL none own → mW cd D cI cZ h a A s X s.heap [] → lv_has ls nL lv →
      W p l e ({ frames := fr, cells := 0, slots := 0, locals := lo }) s m (Value.ref h :: As).toArray below meth c s.heap [] 0 0 (MQ below (oQv cd D cI cZ h a A post) (Value.ref h :: As).toArray s 0 0 A) (F0 m 0 ls [])) : oCv cd l y cc nL fr lo D cI cZ h a X As post := by
  intro sz
  refine Met.ofW (cc := cc) (maxL := nL) (ret := none) hy rfl ?_
  intro p e s m args below meth c s₁ B hml hv
  obtain ⟨rfl, hsz, hP, hK, hD0⟩ := hv
  have hts := atoms_spec (ws := ws_ y cc nL none) B.pre
  have hts : ∀ w ∈ lw_all, w.before _ s = true := fun w h => hts w (List.mem_cons_of_mem _ h)
  have hown : s.vm.findClass own = some m.cls := hcls ▸ findClass_of_methodNamed B.named
  subst hsz
  have hl := lv_entry (Value.ref h :: As) (n := nL) hlen
  rw [lg_entry_eq]
  subst hlv
  exact body p e s m below meth c _ _ ⟨B.exec, B.bytes, hml, hown, hts, B.returns, B.notSynchronized⟩ ⟨hK, hP, hD0.self, va_S.rf, fun q hq => Or.inr hq⟩ hl
theorem oCs_of {l : Launch} {y : MethodName} {cc : ByteArray} {nL : Nat} {ret : Option FieldType} {fr lo : Nat} {As : List Value} {post : Int → Prop} {lv : List (Nat × Value)}
    (hy : plainName y.cls = true) (hlen : (lg_sl As).length ≤ nL) (hlv : lv_args 0 As = lv)
    (body : ∀ (p : Program) (e : Env) (s : State) (m : MethodId) (below : List Frame) (meth : Method) (c : Code) (ls : Array Slot), mE p s m As.toArray meth c cc nL ret y.cls → lv_has ls nL lv →
      W p l e ({ frames := fr, cells := 0, slots := 0, locals := lo }) s m As.toArray below meth c s.heap [] 0 0 (MQ below (va_Qi (fun (r : Int32) (u : Int) => r = iI u ∧ post u) (fun _ _ => True) (fun _ => False)) As.toArray s 0 0 (fun _ => False)) (F0 m 0 ls [])) : oCs l y cc nL ret fr lo As post := by
  refine Met.ofW (cc := cc) (maxL := nL) (ret := ret) hy rfl ?_
  intro p e s m args below meth c s₁ B hml hv
  obtain ⟨rfl, -⟩ := hv
  have hts := atoms_spec (ws := ws_ y cc nL ret) B.pre
  have hts : ∀ w ∈ lw_all, w.before _ s = true := fun w h => hts w (List.mem_cons_of_mem _ h)
  have hown : s.vm.findClass y.cls = some m.cls := findClass_of_methodNamed B.named
  have hl := lv_entry As (n := nL) hlen
  rw [lg_entry_eq]
  subst hlv
  exact body p e s m below meth c _ ⟨B.exec, B.bytes, hml, hown, hts, B.returns, B.notSynchronized⟩ hl
end
section
/-! rows over the base: one instruction each, numbers as Int -/
set_option maxRecDepth 100000
section OROWS
variable {p : Program} {l : Launch} {e : Env} {R : Room} {s : State} {m : MethodId} {args : Array Value} {below : List Frame} {meth : Method} {c : Code} {H : Heap} {locs : List Loc} {cells slots : Nat} {Q : State → Prop}
variable {cc : ByteArray} {pc nL : Nat} {ls : Array Slot} {rest : List Value} {ret : Option FieldType} {own : String}
variable {cd : oD} {D : va_G} {cI cZ : ClassId} {h : Nat} {a : Nat → Nat} {A : Nat → Prop} {X : oS}
theorem o_iconst (hx : p.tables.exec = Jvm.exec) (hb : c.code = cc) {n : Int} (hdg : decode cc pc = .ok (.iconst n, 1)) (k : W p l e R s m args below meth c H locs cells slots Q (F0 m (pc + 1) ls (.int (iI n) :: rest))) : W p l e R s m args below meth c H locs cells slots Q (F0 m pc ls rest) := lv_iconst hx hb hdg rfl k
theorem o_bipush (hx : p.tables.exec = Jvm.exec) (hb : c.code = cc) {n : Int} (hdg : decode cc pc = .ok (.bipush n, 2)) (hv : (Int8.ofInt n).toInt32 = iI n) (k : W p l e R s m args below meth c H locs cells slots Q (F0 m (pc + 2) ls (.int (iI n) :: rest))) : W p l e R s m args below meth c H locs cells slots Q (F0 m pc ls rest) := lv_bipush hx hb hdg hv k
theorem o_sipush (hx : p.tables.exec = Jvm.exec) (hb : c.code = cc) {n : Int} (hdg : decode cc pc = .ok (.sipush n, 3)) (hv : (Int16.ofInt n).toInt32 = iI n) (k : W p l e R s m args below meth c H locs cells slots Q (F0 m (pc + 3) ls (.int (iI n) :: rest))) : W p l e R s m args below meth c H locs cells slots Q (F0 m pc ls rest) := lv_sipush hx hb hdg hv k
theorem o_iadd (hx : p.tables.exec = Jvm.exec) (hb : c.code = cc) {x y : Int} (hdg : decode cc pc = .ok (.iadd, 1)) (k : W p l e R s m args below meth c H locs cells slots Q (F0 m (pc + 1) ls (.int (iI (x + y)) :: rest))) : W p l e R s m args below meth c H locs cells slots Q (F0 m pc ls (.int (iI y) :: .int (iI x) :: rest)) := lv_iadd hx hb hdg (by rw [ii_add]; exact k)
theorem o_isub (hx : p.tables.exec = Jvm.exec) (hb : c.code = cc) {x y : Int} (hdg : decode cc pc = .ok (.isub, 1)) (k : W p l e R s m args below meth c H locs cells slots Q (F0 m (pc + 1) ls (.int (iI (x - y)) :: rest))) : W p l e R s m args below meth c H locs cells slots Q (F0 m pc ls (.int (iI y) :: .int (iI x) :: rest)) := lv_isub hx hb hdg (by rw [ii_sub]; exact k)
theorem o_imul (hx : p.tables.exec = Jvm.exec) (hb : c.code = cc) {x y : Int} (hdg : decode cc pc = .ok (.imul, 1)) (k : W p l e R s m args below meth c H locs cells slots Q (F0 m (pc + 1) ls (.int (iI (x * y)) :: rest))) : W p l e R s m args below meth c H locs cells slots Q (F0 m pc ls (.int (iI y) :: .int (iI x) :: rest)) := lv_imul hx hb hdg (by rw [ii_mul]; exact k)
theorem o_iand (hx : p.tables.exec = Jvm.exec) (hb : c.code = cc) {x y : Int} (hdg : decode cc pc = .ok (.iand, 1)) (k : W p l e R s m args below meth c H locs cells slots Q (F0 m (pc + 1) ls (.int (iI (iI x &&& iI y).toInt) :: rest))) : W p l e R s m args below meth c H locs cells slots Q (F0 m pc ls (.int (iI y) :: .int (iI x) :: rest)) := lv_iand hx hb hdg (by rw [ii_of] at k; exact k)
theorem o_iinc (hx : p.tables.exec = Jvm.exec) (hb : c.code = cc) {i k : Nat} {n z : Int} {lv lv' : List (Nat × Value)} (hdg : decode cc pc = .ok (.iinc i n, 3)) (hl : lv_has ls nL lv) (hk : lv[k]? = some (i, .int (iI z))) (hn : i < nL) (he : (i, Value.int (iI (z + n))) :: lv.filter (fun q => !(q.1 == i) && !(q.1 + 1 == i && q.2.category == 2)) = lv')
    (kk : ∀ ls' : Array Slot, lv_has ls' nL lv' → W p l e R s m args below meth c H locs cells slots Q (F0 m (pc + 3) ls' rest)) : W p l e R s m args below meth c H locs cells slots Q (F0 m pc ls rest) := lv_iinc (v := iI (z + n)) hx hb hdg hl hk (ii_add z n) hn he kk
theorem o_ifeq (hx : p.tables.exec = Jvm.exec) (hb : c.code = cc) {x : Int} {off : Int} {tgt : Nat} (hdg : decode cc pc = .ok (.ifCond .eq off, 3)) (ht : (pc : Int) + off = (tgt : Int)) (hr : ii_r x) (kt : x = 0 → W p l e R s m args below meth c H locs cells slots Q (F0 m tgt ls rest)) (kf : x ≠ 0 → W p l e R s m args below meth c H locs cells slots Q (F0 m (pc + 3) ls rest)) : W p l e R s m args below meth c H locs cells slots Q (F0 m pc ls (.int (iI x) :: rest)) :=
  lv_if_eq hx hb hdg ht (fun q => kt ((ii_eq hr ii_r0).mp (q.trans ii_0.symm))) (fun q => kf (fun z => q (((ii_eq hr ii_r0).mpr z).trans ii_0)))
theorem o_ifne (hx : p.tables.exec = Jvm.exec) (hb : c.code = cc) {x : Int} {off : Int} {tgt : Nat} (hdg : decode cc pc = .ok (.ifCond .ne off, 3)) (ht : (pc : Int) + off = (tgt : Int)) (hr : ii_r x) (kt : x ≠ 0 → W p l e R s m args below meth c H locs cells slots Q (F0 m tgt ls rest)) (kf : x = 0 → W p l e R s m args below meth c H locs cells slots Q (F0 m (pc + 3) ls rest)) : W p l e R s m args below meth c H locs cells slots Q (F0 m pc ls (.int (iI x) :: rest)) :=
  lv_if_ne hx hb hdg ht (fun q => kt (fun z => q (((ii_eq hr ii_r0).mpr z).trans ii_0))) (fun q => kf ((ii_eq hr ii_r0).mp (q.trans ii_0.symm)))
theorem o_iflt (hx : p.tables.exec = Jvm.exec) (hb : c.code = cc) {x : Int} {off : Int} {tgt : Nat} (hdg : decode cc pc = .ok (.ifCond .lt off, 3)) (ht : (pc : Int) + off = (tgt : Int)) (hr : ii_r x) (kt : x < 0 → W p l e R s m args below meth c H locs cells slots Q (F0 m tgt ls rest)) (kf : 0 ≤ x → W p l e R s m args below meth c H locs cells slots Q (F0 m (pc + 3) ls rest)) : W p l e R s m args below meth c H locs cells slots Q (F0 m pc ls (.int (iI x) :: rest)) :=
  lv_if_lt hx hb hdg ht (fun q => kt ((ii_lt hr ii_r0).mp (by rw [ii_0]; exact q))) (fun q => kf (Int.not_lt.mp fun z => q (by rw [← ii_0]; exact (ii_lt hr ii_r0).mpr z)))
theorem o_ifge (hx : p.tables.exec = Jvm.exec) (hb : c.code = cc) {x : Int} {off : Int} {tgt : Nat} (hdg : decode cc pc = .ok (.ifCond .ge off, 3)) (ht : (pc : Int) + off = (tgt : Int)) (hr : ii_r x) (kt : 0 ≤ x → W p l e R s m args below meth c H locs cells slots Q (F0 m tgt ls rest)) (kf : x < 0 → W p l e R s m args below meth c H locs cells slots Q (F0 m (pc + 3) ls rest)) : W p l e R s m args below meth c H locs cells slots Q (F0 m pc ls (.int (iI x) :: rest)) :=
  lv_if_ge hx hb hdg ht (fun q => kt ((ii_le ii_r0 hr).mp (by rw [ii_0]; exact q))) (fun q => kf (Int.not_le.mp fun z => q (by rw [← ii_0]; exact (ii_le ii_r0 hr).mpr z)))
theorem o_ifgt (hx : p.tables.exec = Jvm.exec) (hb : c.code = cc) {x : Int} {off : Int} {tgt : Nat} (hdg : decode cc pc = .ok (.ifCond .gt off, 3)) (ht : (pc : Int) + off = (tgt : Int)) (hr : ii_r x) (kt : 0 < x → W p l e R s m args below meth c H locs cells slots Q (F0 m tgt ls rest)) (kf : x ≤ 0 → W p l e R s m args below meth c H locs cells slots Q (F0 m (pc + 3) ls rest)) : W p l e R s m args below meth c H locs cells slots Q (F0 m pc ls (.int (iI x) :: rest)) :=
  lv_if_gt hx hb hdg ht (fun q => kt ((ii_lt ii_r0 hr).mp (by rw [ii_0]; exact q))) (fun q => kf (Int.not_lt.mp fun z => q (by rw [← ii_0]; exact (ii_lt ii_r0 hr).mpr z)))
theorem o_ifle (hx : p.tables.exec = Jvm.exec) (hb : c.code = cc) {x : Int} {off : Int} {tgt : Nat} (hdg : decode cc pc = .ok (.ifCond .le off, 3)) (ht : (pc : Int) + off = (tgt : Int)) (hr : ii_r x) (kt : x ≤ 0 → W p l e R s m args below meth c H locs cells slots Q (F0 m tgt ls rest)) (kf : 0 < x → W p l e R s m args below meth c H locs cells slots Q (F0 m (pc + 3) ls rest)) : W p l e R s m args below meth c H locs cells slots Q (F0 m pc ls (.int (iI x) :: rest)) :=
  lv_if_le hx hb hdg ht (fun q => kt ((ii_le hr ii_r0).mp (by rw [ii_0]; exact q))) (fun q => kf (Int.not_le.mp fun z => q (by rw [← ii_0]; exact (ii_le hr ii_r0).mpr z)))
theorem o_ceq (hx : p.tables.exec = Jvm.exec) (hb : c.code = cc) {x y : Int} {off : Int} {tgt : Nat} (hdg : decode cc pc = .ok (.if_icmp .eq off, 3)) (ht : (pc : Int) + off = (tgt : Int)) (hr : ii_r x) (hq : ii_r y) (kt : x = y → W p l e R s m args below meth c H locs cells slots Q (F0 m tgt ls rest)) (kf : x ≠ y → W p l e R s m args below meth c H locs cells slots Q (F0 m (pc + 3) ls rest)) : W p l e R s m args below meth c H locs cells slots Q (F0 m pc ls (.int (iI y) :: .int (iI x) :: rest)) :=
  lv_icmp_eq hx hb hdg ht (fun q => kt ((ii_eq hr hq).mp q)) (fun q => kf (fun z => q ((ii_eq hr hq).mpr z)))
theorem o_cne (hx : p.tables.exec = Jvm.exec) (hb : c.code = cc) {x y : Int} {off : Int} {tgt : Nat} (hdg : decode cc pc = .ok (.if_icmp .ne off, 3)) (ht : (pc : Int) + off = (tgt : Int)) (hr : ii_r x) (hq : ii_r y) (kt : x ≠ y → W p l e R s m args below meth c H locs cells slots Q (F0 m tgt ls rest)) (kf : x = y → W p l e R s m args below meth c H locs cells slots Q (F0 m (pc + 3) ls rest)) : W p l e R s m args below meth c H locs cells slots Q (F0 m pc ls (.int (iI y) :: .int (iI x) :: rest)) :=
  lv_icmp_ne hx hb hdg ht (fun q => kt (fun z => q ((ii_eq hr hq).mpr z))) (fun q => kf ((ii_eq hr hq).mp q))
theorem o_clt (hx : p.tables.exec = Jvm.exec) (hb : c.code = cc) {x y : Int} {off : Int} {tgt : Nat} (hdg : decode cc pc = .ok (.if_icmp .lt off, 3)) (ht : (pc : Int) + off = (tgt : Int)) (hr : ii_r x) (hq : ii_r y) (kt : x < y → W p l e R s m args below meth c H locs cells slots Q (F0 m tgt ls rest)) (kf : y ≤ x → W p l e R s m args below meth c H locs cells slots Q (F0 m (pc + 3) ls rest)) : W p l e R s m args below meth c H locs cells slots Q (F0 m pc ls (.int (iI y) :: .int (iI x) :: rest)) :=
  lv_icmp_lt hx hb hdg ht (fun q => kt ((ii_lt hr hq).mp q)) (fun q => kf (Int.not_lt.mp fun z => q ((ii_lt hr hq).mpr z)))
theorem o_cge (hx : p.tables.exec = Jvm.exec) (hb : c.code = cc) {x y : Int} {off : Int} {tgt : Nat} (hdg : decode cc pc = .ok (.if_icmp .ge off, 3)) (ht : (pc : Int) + off = (tgt : Int)) (hr : ii_r x) (hq : ii_r y) (kt : y ≤ x → W p l e R s m args below meth c H locs cells slots Q (F0 m tgt ls rest)) (kf : x < y → W p l e R s m args below meth c H locs cells slots Q (F0 m (pc + 3) ls rest)) : W p l e R s m args below meth c H locs cells slots Q (F0 m pc ls (.int (iI y) :: .int (iI x) :: rest)) :=
  lv_icmp_ge hx hb hdg ht (fun q => kt ((ii_le hq hr).mp q)) (fun q => kf (Int.not_le.mp fun z => q ((ii_le hq hr).mpr z)))
theorem o_cgt (hx : p.tables.exec = Jvm.exec) (hb : c.code = cc) {x y : Int} {off : Int} {tgt : Nat} (hdg : decode cc pc = .ok (.if_icmp .gt off, 3)) (ht : (pc : Int) + off = (tgt : Int)) (hr : ii_r x) (hq : ii_r y) (kt : y < x → W p l e R s m args below meth c H locs cells slots Q (F0 m tgt ls rest)) (kf : x ≤ y → W p l e R s m args below meth c H locs cells slots Q (F0 m (pc + 3) ls rest)) : W p l e R s m args below meth c H locs cells slots Q (F0 m pc ls (.int (iI y) :: .int (iI x) :: rest)) :=
  lv_icmp_gt hx hb hdg ht (fun q => kt ((ii_lt hq hr).mp q)) (fun q => kf (Int.not_lt.mp fun z => q ((ii_lt hq hr).mpr z)))
theorem o_cle (hx : p.tables.exec = Jvm.exec) (hb : c.code = cc) {x y : Int} {off : Int} {tgt : Nat} (hdg : decode cc pc = .ok (.if_icmp .le off, 3)) (ht : (pc : Int) + off = (tgt : Int)) (hr : ii_r x) (hq : ii_r y) (kt : x ≤ y → W p l e R s m args below meth c H locs cells slots Q (F0 m tgt ls rest)) (kf : y < x → W p l e R s m args below meth c H locs cells slots Q (F0 m (pc + 3) ls rest)) : W p l e R s m args below meth c H locs cells slots Q (F0 m pc ls (.int (iI y) :: .int (iI x) :: rest)) :=
  lv_icmp_le hx hb hdg ht (fun q => kt ((ii_le hr hq).mp q)) (fun q => kf (Int.not_le.mp fun z => q ((ii_le hr hq).mpr z)))
theorem o_at (k : Nat) {b : Bool} {n : Nat} (hk : 1 ≤ k ∧ cd.2.2[k - 1]? = some (b, n)) : (oW cd cI cZ h a X)[k]? = some (a k, .inl (if b = true then cZ else cI, n, .inl (fun j : Nat => iI (X k (j : Int))))) := by
  obtain ⟨h1, h2⟩ := hk
  obtain ⟨j, rfl⟩ : ∃ j, k = 1 + j := ⟨k - 1, by omega⟩
  rw [show 1 + j - 1 = j by omega] at h2
  show (_ :: oA cI cZ a X 1 cd.2.2)[1 + j]? = _
  rw [show 1 + j = j + 1 by omega, List.getElem?_cons_succ, oA_get _ 1 j b n h2, show 1 + j = j + 1 by omega]
theorem o_put (k : Nat) {b : Bool} {n : Nat} (hk : 1 ≤ k ∧ cd.2.2[k - 1]? = some (b, n)) {i v : Int} (hi : 0 ≤ i) : (oW cd cI cZ h a X).set k (a k, .inl (if b = true then cZ else cI, n, .inl (upd (fun j : Nat => iI (X k (j : Int))) i.toNat (iI v)))) = oW cd cI cZ h a (su X k i v) := by
  obtain ⟨h1, h2⟩ := hk
  obtain ⟨j, rfl⟩ : ∃ j, k = 1 + j := ⟨k - 1, by omega⟩
  rw [show 1 + j - 1 = j by omega] at h2
  have e := oA_set (cI := cI) (cZ := cZ) (a := a) (X := X) (v := v) hi cd.2.2 1 j b n h2
  have e2 : oP cd.2.1 (su X (1 + j) i v) = oP cd.2.1 X := by
    unfold oP
    split
    · rw [su_k (by omega)]
    · rfl
  unfold oW
  rw [← e, e2]
  show (_ :: oA cI cZ a X 1 cd.2.2).set (1 + j) _ = _ :: (oA cI cZ a X 1 cd.2.2).set j _
  rw [show (1 + j) = j + 1 by omega, List.set_cons_succ]
theorem o_ld (E : mE p s m args meth c cc nL ret own) (hW : mW cd D cI cZ h a A s X H locs) (k : Nat) {n : Nat} (hk : 1 ≤ k ∧ cd.2.2[k - 1]? = some (false, n)) {i z : Int} (h0 : 0 ≤ i) (h1 : i < n) (hn : n ≤ 2147483647) (hz : X k i = z) (hdg : decode cc pc = .ok (.iaload, 1))
    (kk : W p l e R s m args below meth c H locs cells slots Q (F0 m (pc + 1) ls (.int (iI z) :: rest))) : W p l e R s m args below meth c H locs cells slots Q (F0 m pc ls (.int (iI i) :: .ref (a k) :: rest)) := by
  refine va_iald E.1 E.2.1 hW.1 hW.2.1 k 0 (o_at k hk) rfl (ii_in h0 h1 hn) hdg ?_
  rw [ii_cl h0 (by omega)]
  show W p l e R s m args below meth c H locs cells slots Q (F0 m (pc + 1) ls (.int (iI (X k ((i.toNat : Nat) : Int))) :: rest))
  rw [Int.toNat_of_nonneg h0, hz]
  exact kk
theorem o_zld (E : mE p s m args meth c cc nL ret own) (hW : mW cd D cI cZ h a A s X H locs) (k : Nat) {n : Nat} (hk : 1 ≤ k ∧ cd.2.2[k - 1]? = some (true, n)) {i z : Int} (h0 : 0 ≤ i) (h1 : i < n) (hn : n ≤ 2147483647) (hz : X k i = z) (hdg : decode cc pc = .ok (.baload, 1))
    (kk : W p l e R s m args below meth c H locs cells slots Q (F0 m (pc + 1) ls (.int (iI z) :: rest))) : W p l e R s m args below meth c H locs cells slots Q (F0 m pc ls (.int (iI i) :: .ref (a k) :: rest)) := by
  refine va_zald E.1 E.2.1 hW.1 hW.2.1 k 1 (o_at k hk) rfl (ii_in h0 h1 hn) hdg ?_
  rw [ii_cl h0 (by omega)]
  show W p l e R s m args below meth c H locs cells slots Q (F0 m (pc + 1) ls (.int (iI (X k ((i.toNat : Nat) : Int))) :: rest))
  rw [Int.toNat_of_nonneg h0, hz]
  exact kk
theorem o_st (E : mE p s m args meth c cc nL ret own) (hW : mW cd D cI cZ h a A s X H locs) (k : Nat) {n : Nat} (hk : 1 ≤ k ∧ cd.2.2[k - 1]? = some (false, n)) {i v : Int} (h0 : 0 ≤ i) (h1 : i < n) (hn : n ≤ 2147483647) (hdg : decode cc pc = .ok (.iastore, 1))
    (kk : ∀ (H1 : Heap) (locs1 : List Loc), mW cd D cI cZ h a A s (su X k i v) H1 locs1 → W p l e R s m args below meth c H1 locs1 cells slots Q (F0 m (pc + 1) ls rest)) : W p l e R s m args below meth c H locs cells slots Q (F0 m pc ls (.int (iI v) :: .int (iI i) :: .ref (a k) :: rest)) := by
  refine va_iast E.1 E.2.1 hW.1 hW.2.1 hW.2.2.1 hW.2.2.2.1 k 0 (o_at k hk) rfl (ii_in h0 h1 hn) hdg (fun H1 locs1 hP hD hS => ?_)
  rw [ii_cl h0 (by omega)] at hP hD
  have e := o_put (cI := cI) (cZ := cZ) (h := h) (a := a) (X := X) k hk (i := i) (v := v) h0
  rw [e] at hP hD
  exact kk H1 locs1 ⟨hW.1, hP, hD, hS, hW.2.2.2.2⟩
theorem o_zst (E : mE p s m args meth c cc nL ret own) (hW : mW cd D cI cZ h a A s X H locs) (k : Nat) {n : Nat} (hk : 1 ≤ k ∧ cd.2.2[k - 1]? = some (true, n)) {i v : Int} (h0 : 0 ≤ i) (h1 : i < n) (hn : n ≤ 2147483647) (hv : v = 0 ∨ v = 1) (hdg : decode cc pc = .ok (.bastore, 1))
    (kk : ∀ (H1 : Heap) (locs1 : List Loc), mW cd D cI cZ h a A s (su X k i v) H1 locs1 → W p l e R s m args below meth c H1 locs1 cells slots Q (F0 m (pc + 1) ls rest)) : W p l e R s m args below meth c H locs cells slots Q (F0 m pc ls (.int (iI v) :: .int (iI i) :: .ref (a k) :: rest)) := by
  refine va_zast E.1 E.2.1 hW.1 hW.2.1 hW.2.2.1 hW.2.2.2.1 k 1 (o_at k hk) rfl (ii_in h0 h1 hn) hdg (fun H1 locs1 hP hD hS => ?_)
  have ev : vp_nar .boolean (iI v) = iI v := by rcases hv with rfl | rfl <;> decide
  rw [ii_cl h0 (by omega), ev] at hP hD
  have e := o_put (cI := cI) (cZ := cZ) (h := h) (a := a) (X := X) k hk (i := i) (v := v) h0
  rw [e] at hP hD
  exact kk H1 locs1 ⟨hW.1, hP, hD, hS, hW.2.2.2.2⟩
/-- getfield of an array: field f of the class, array k -/
theorem o_get (E : mE p s m args meth c cc nL ret own) (hW : mW cd D cI cZ h a A s X H locs) {C : String} {T : u_T} {N : Nat} (hin : ∀ w ∈ u_ws C T N, w ∈ lw_all) (hc : vwCl[cd.1]? = some (C, T, N)) (f : Nat) (hf : f < N) {v : Value} {idx : Nat} {rf : String} (hT : (T f).1 = rf) (hl : Cond.fieldLink own idx rf (T f).2.1 (T f).2.2.1 ∈ lw_all) (hv : (oP cd.2.1 X ++ oR a 1 cd.2.2)[f]? = some v) (hdg : decode cc pc = .ok (.getfield idx, 3))
    (kk : W p l e R s m args below meth c H locs cells slots Q (F0 m (pc + 3) ls (v :: rest))) : W p l e R s m args below meth c H locs cells slots Q (F0 m pc ls (.ref h :: rest)) :=
  va_get (D := D) (cl := vwCl) (C := C) (T := T) (N := N) (ci := cd.1) (ref := rf) E.1 E.2.1 E.2.2.2.2.1 hin E.2.2.2.1 hW.1 hW.2.1 0 rfl hc f hf (E.2.2.2.2.1 _ hl) (fun _ q => by rw [hT] at q; exact q) hv hdg kk
theorem o_ret {post : Int → oS → Prop} {z : Int} (E : mE p s m args meth c cc nL (some .int) own) (hW : mW cd D cI cZ h a A s X H locs) (hdg : decode cc pc = .ok (.ireturn, 1)) (hq : post z X) : W p l e R s m args below meth c H locs 0 0 (MQ below (oQc cd D cI cZ h a A post) args s 0 0 A) (F0 m pc ls [.int (iI z)]) :=
  W.iret E.1 E.2.1 E.2.2.2.2.2.1 (fun t ht hw => ⟨⟨iI z, (z, X), rfl, ⟨rfl, hq⟩, by rw [ht]; exact hW.2.1, va_K.moved hw.alike hW.1, hW.2.2.1⟩, hW.2.2.2.1.F ht⟩) hW.2.2.2.1.2.2 hdg (hlocks := E.2.2.2.2.2.2)
theorem o_nz {z : Int} (hv : z = 0 ∨ z = 1) : narrow .boolean (.int (iI z)) = .int (iI z) := by rcases hv with rfl | rfl <;> rfl
theorem o_zret {post : Int → oS → Prop} {z : Int} (E : mE p s m args meth c cc nL (some .boolean) own) (hW : mW cd D cI cZ h a A s X H locs) (hdg : decode cc pc = .ok (.ireturn, 1)) (hv : z = 0 ∨ z = 1) (hq : post z X) : W p l e R s m args below meth c H locs 0 0 (MQ below (oQc cd D cI cZ h a A post) args s 0 0 A) (F0 m pc ls [.int (iI z)]) :=
  W.zret E.1 E.2.1 E.2.2.2.2.2.1 (o_nz hv) (fun t ht hw => ⟨⟨iI z, (z, X), rfl, ⟨rfl, hq⟩, by rw [ht]; exact hW.2.1, va_K.moved hw.alike hW.1, hW.2.2.1⟩, hW.2.2.2.1.F ht⟩) hW.2.2.2.1.2.2 hdg (hlocks := E.2.2.2.2.2.2)
theorem o_vret {post : oS → Prop} (E : mE p s m args meth c cc nL none own) (hW : mW cd D cI cZ h a A s X H locs) (hdg : decode cc pc = .ok (.return_, 1)) (hq : post X) : W p l e R s m args below meth c H locs 0 0 (MQ below (oQv cd D cI cZ h a A post) args s 0 0 A) (F0 m pc ls []) :=
  W.vret E.1 E.2.1 E.2.2.2.2.2.1 (fun t ht hw => ⟨⟨X, rfl, hq, by rw [ht]; exact hW.2.1, va_K.moved hw.alike hW.1, hW.2.2.1⟩, hW.2.2.2.1.F ht⟩) hW.2.2.2.1.2.2 hdg (hlocks := E.2.2.2.2.2.2)
theorem o_sret {post : Int → Prop} {z : Int} (E : mE p s m args meth c cc nL (some .boolean) own) (hdg : decode cc pc = .ok (.ireturn, 1)) (hv : z = 0 ∨ z = 1) (hq : post z) : W p l e R s m args below meth c s.heap [] 0 0 (MQ below (va_Qi (fun (r : Int32) (u : Int) => r = iI u ∧ post u) (fun _ _ => True) (fun _ => False)) args s 0 0 (fun _ => False)) (F0 m pc ls [.int (iI z)]) :=
  W.zret E.1 E.2.1 E.2.2.2.2.2.1 (o_nz hv) (fun t ht hw => ⟨⟨iI z, z, rfl, ⟨rfl, hq⟩, trivial⟩, va_S.rf.F ht⟩) (fun q hq => by cases hq) hdg (hlocks := E.2.2.2.2.2.2)
theorem o_blind {As : List Value} {sz : Nat} : FrameBlind (oPc cd D cI cZ h a X As sz) := fun b U g mk q => by
  obtain ⟨q0, q1, qP, qK, qD⟩ := q
  exact ⟨q0, q1, qP, va_K.moved (u := U) (U := U.calling g mk b) (Vm.Alike.refl U.vm) qK, qD⟩
theorem o_free (hW : mW cd D cI cZ h a A s X H locs) : ∀ q, va_A (oW cd cI cZ h a X) H.size q → A q := by
  rintro q (⟨k, e, hk⟩ | hk)
  · exact hW.2.2.1.2 k (q, e) hk
  · exact hW.2.2.2.2 q (Nat.le_trans hW.2.2.2.1.1 hk)
/-- a call of a method of the same object -/
theorem o_call {lv : List (Nat × Value)} {y : MethodName} {ccy : ByteArray} {nLy : Nat} {rety : Option FieldType} {fr lo : Nat} {As : List Value} {post : Int → oS → Prop} {C : String} {T : u_T} {N idx nA : Nat} {st : List Value} (E : mE p s m args meth c cc nL ret own) (hW : mW cd D cI cZ h a A s X H locs) (hl : lv_has ls nL lv) (hM : oC cd l y ccy nLy rety fr lo D cI cZ h a X As post)
    (hg : GoodIn lw_all (wsV own idx C y (ws_ y ccy nLy rety))) (hc : vwCl[cd.1]? = some (C, T, N)) (hd : y.cls = C ∧ y.cls ≠ "java/lang/invoke/MethodHandle" ∧ y.cls ≠ "java/lang/invoke/VarHandle" ∧ (parseMethodDescriptor y.desc).map (fun d => d.parameters.length) = some nA) (hA : As.length = nA) (hR : fr + 1 ≤ R.frames ∧ 8 + (nLy + 11) + lo ≤ R.locals) (hst : st = As.reverse ++ .ref h :: rest) (hre : (rest.map fun v => v.category).sum ≤ 8) (hcs : cells ≤ R.cells ∧ slots ≤ R.slots) (hdg : decode cc pc = .ok (.invokevirtual idx, 3))
    (kk : ∀ (z : Int) (X' : oS) (H' : Heap) (locs' : List Loc), post z X' → mW cd D cI cZ h a A s X' H' locs' → W p l e R s m args below meth c H' locs' cells slots Q (F0 m (pc + 3) ls (.int (iI z) :: rest))) : W p l e R s m args below meth c H locs cells slots Q (F0 m pc ls st) := by
  have hF := o_free hW
  refine va_calli (va_runV (As := As) (rest := rest) (nL := nL) ⟨E.1, E.2.1, E.2.2.1, E.2.2.2.1, E.2.2.2.2.1⟩ (hM H.size) (cwV nA E.2.2.2.2.1 hg rfl rfl rfl hd hR) ⟨o_blind, va_recv (q := (C, T, N)) hW.1 hW.2.1 hc (q0 := 0) rfl, fun U hU hw => ⟨rfl, by rw [hU], by rw [hU]; exact hW.2.1, va_K.moved hw.alike hW.1, hW.2.2.1.weaken (fun _ _ _ _ => trivial)⟩⟩ rfl hA hl.1 hst (lv_room hre) hdg hcs) hW.2.2.2.1 (fun q _ hq => hF q hq) hF (fun r u t H1 locs1 ht hvm hw1 hB hz1 hk1 hS1 => ?_)
  obtain ⟨rfl, hp⟩ := hw1
  exact kk u.1 u.2 H1 locs1 hp ⟨hW.1, by rw [← ht]; exact hB.1, hB.2.2.weaken (fun k q _ hq => hF q.1 hq), hS1, hW.2.2.2.2⟩
theorem o_callv {lv : List (Nat × Value)} {y : MethodName} {ccy : ByteArray} {nLy : Nat} {fr lo : Nat} {As : List Value} {post : oS → Prop} {C : String} {T : u_T} {N idx nA : Nat} {st : List Value} (E : mE p s m args meth c cc nL ret own) (hW : mW cd D cI cZ h a A s X H locs) (hl : lv_has ls nL lv) (hM : oCv cd l y ccy nLy fr lo D cI cZ h a X As post)
    (hg : GoodIn lw_all (wsV own idx C y (ws_ y ccy nLy none))) (hc : vwCl[cd.1]? = some (C, T, N)) (hd : y.cls = C ∧ y.cls ≠ "java/lang/invoke/MethodHandle" ∧ y.cls ≠ "java/lang/invoke/VarHandle" ∧ (parseMethodDescriptor y.desc).map (fun d => d.parameters.length) = some nA) (hA : As.length = nA) (hR : fr + 1 ≤ R.frames ∧ 8 + (nLy + 11) + lo ≤ R.locals) (hst : st = As.reverse ++ .ref h :: rest) (hre : (rest.map fun v => v.category).sum ≤ 8) (hcs : cells ≤ R.cells ∧ slots ≤ R.slots) (hdg : decode cc pc = .ok (.invokevirtual idx, 3))
    (kk : ∀ (X' : oS) (H' : Heap) (locs' : List Loc), post X' → mW cd D cI cZ h a A s X' H' locs' → W p l e R s m args below meth c H' locs' cells slots Q (F0 m (pc + 3) ls rest)) : W p l e R s m args below meth c H locs cells slots Q (F0 m pc ls st) := by
  have hF := o_free hW
  refine va_callv (va_runV (As := As) (rest := rest) (nL := nL) ⟨E.1, E.2.1, E.2.2.1, E.2.2.2.1, E.2.2.2.2.1⟩ (hM H.size) (cwV nA E.2.2.2.2.1 hg rfl rfl rfl hd hR) ⟨o_blind, va_recv (q := (C, T, N)) hW.1 hW.2.1 hc (q0 := 0) rfl, fun U hU hw => ⟨rfl, by rw [hU], by rw [hU]; exact hW.2.1, va_K.moved hw.alike hW.1, hW.2.2.1.weaken (fun _ _ _ _ => trivial)⟩⟩ rfl hA hl.1 hst (lv_room hre) hdg hcs) hW.2.2.2.1 (fun q _ hq => hF q hq) hF (fun u t H1 locs1 ht hvm hw1 hB hz1 hk1 hS1 => ?_)
  exact kk u H1 locs1 hw1 ⟨hW.1, by rw [← ht]; exact hB.1, hB.2.2.weaken (fun k q _ hq => hF q.1 hq), hS1, hW.2.2.2.2⟩
/-- a call of a static method that sees no cell -/
theorem o_calls {lv : List (Nat × Value)} {y : MethodName} {ccy : ByteArray} {nLy : Nat} {rety : Option FieldType} {fr lo : Nat} {As : List Value} {post : Int → Prop} {idx nA : Nat} {st : List Value} (E : mE p s m args meth c cc nL ret own) (hW : mW cd D cI cZ h a A s X H locs) (hl : lv_has ls nL lv) (hM : oCs l y ccy nLy rety fr lo As post)
    (hg : GoodIn lw_all (va_wsS own idx y (ws_ y ccy nLy rety))) (hd : y.cls ≠ "java/lang/invoke/MethodHandle" ∧ y.cls ≠ "java/lang/invoke/VarHandle" ∧ (parseMethodDescriptor y.desc).map (fun d => d.parameters.length) = some nA) (hA : As.length = nA) (hR : fr + 1 ≤ R.frames ∧ 8 + (nLy + 11) + lo ≤ R.locals) (hst : st = As.reverse ++ rest) (hre : (rest.map fun v => v.category).sum ≤ 8) (hcs : cells ≤ R.cells ∧ slots ≤ R.slots) (hdg : decode cc pc = .ok (.invokestatic idx, 3))
    (kk : ∀ (z : Int) (H' : Heap) (locs' : List Loc), post z → mW cd D cI cZ h a A s X H' locs' → W p l e R s m args below meth c H' locs' cells slots Q (F0 m (pc + 3) ls (.int (iI z) :: rest))) : W p l e R s m args below meth c H locs cells slots Q (F0 m pc ls st) := by
  refine va_calli (va_runS (As := As) (rest := rest) (nL := nL) ⟨E.1, E.2.1, E.2.2.1, E.2.2.2.1, E.2.2.2.2.1⟩ hM (va_cwS nA E.2.2.2.2.1 hg rfl rfl rfl hd hR) ⟨fun b U g mk q => q, fun U hU hw => ⟨rfl, trivial⟩⟩ rfl hA hl.1 hst (lv_room hre) hdg hcs) hW.2.2.2.1 (fun q _ hq => hq.elim) (fun q hq => hq.elim) (fun r u t H1 locs1 ht hvm hw1 hB hz1 hk1 hS1 => ?_)
  obtain ⟨rfl, hp⟩ := hw1
  exact kk u H1 locs1 hp ⟨hW.1, hW.2.1.kept (fun k q hq => hk1 q.1 (hW.2.1 k q hq).lt (fun z => z)), hW.2.2.1, hS1, hW.2.2.2.2⟩
/-- the number ahead of the arrays: written -/
theorem x_putL (E : mE p s m args meth c cc nL ret RX0) (hW : mW dX D cI cZ h a A s X H locs) {v : Int} {idx : Nat} (hl : Cond.fieldLink RX0 idx RX0 (TX0 0).2.1 (TX0 0).2.2.1 ∈ lw_all) (hdg : decode cc pc = .ok (.putfield idx, 3))
    (kk : ∀ (H1 : Heap) (locs1 : List Loc), mW dX D cI cZ h a A s (su X 0 0 v) H1 locs1 → W p l e R s m args below meth c H1 locs1 cells slots Q (F0 m (pc + 3) ls rest)) : W p l e R s m args below meth c H locs cells slots Q (F0 m pc ls (.int (iI v) :: .ref h :: rest)) := by
  refine va_put (D := D) (cl := vwCl) (ci := 0) (v := .int (iI v)) (ty := .int) (C := RX0) (T := TX0) (N := 16) E.1 E.2.1 E.2.2.2.2.1 in_X0 tyX0 tyX0_ok nmX0 E.2.2.2.1 hW.1 hW.2.1 hW.2.2.1 hW.2.2.2.1 0 rfl rfl 0 (by decide) (E.2.2.2.2.1 _ hl) (fun _ q => q) rfl (by decide +kernel) rfl rfl (Nat.le_of_ble_eq_true rfl) hdg (fun H1 locs1 hP hD hS => ?_)
  have e : (oW dX cI cZ h a X).set 0 (h, .inr (0, (oP dX.2.1 X ++ oR a 1 dX.2.2).set 0 (.int (iI v)))) = oW dX cI cZ h a (su X 0 0 v) := by
    unfold oW
    rw [oA_su dX.2.2 1 (by omega)]
    show _ :: oA cI cZ a X 1 dX.2.2 = _ :: oA cI cZ a X 1 dX.2.2
    congr 3
  have hP : va_P D vwCl ((oW dX cI cZ h a X).set 0 (h, .inr (0, (oP dX.2.1 X ++ oR a 1 dX.2.2).set 0 (.int (iI v))))) H1 := hP
  have hD : va_D A ((oW dX cI cZ h a X).set 0 (h, .inr (0, (oP dX.2.1 X ++ oR a 1 dX.2.2).set 0 (.int (iI v))))) := hD
  rw [e] at hP hD
  exact kk H1 locs1 ⟨hW.1, hP, hD, hS, hW.2.2.2.2⟩
end OROWS
end
section
/-! DescriptorTable: the small methods -/
set_option maxRecDepth 100000
abbrev rg (X : oS) (k : Nat) (n lo hi : Int) : Prop := ∀ i : Int, 0 ≤ i → i < n → lo ≤ X k i ∧ X k i ≤ hi
abbrev al (X : oS) (pp : Int) : Prop := 0 ≤ pp ∧ pp ≤ 3 ∧ X 1 pp = 1
/-- the least place with P, 0 if there is none -/
def lz (P : Int → Prop) (n z : Int) : Prop := (0 ≤ z ∧ z < n ∧ P z ∧ ∀ j, 0 ≤ j → j < z → ¬ P j) ∨ (z = 0 ∧ ∀ j, 0 ≤ j → j < n → ¬ P j)
/-- .. found from above, so far down to i -/
def lzi (P : Int → Prop) (n i z : Int) : Prop := (i < z ∧ z < n ∧ P z ∧ ∀ j, i < j → j < z → ¬ P j) ∨ (z = 0 ∧ ∀ j, i < j → j < n → ¬ P j)
theorem lzi_0 {P : Int → Prop} {n i : Int} (h : n ≤ i + 1) : lzi P n i 0 := Or.inr ⟨rfl, fun j h1 h2 => by omega⟩
theorem lzi_y {P : Int → Prop} {n i : Int} (h1 : i < n) (h : P i) : lzi P n (i + -1) i := Or.inl ⟨by omega, h1, h, fun j h2 h3 => by omega⟩
theorem lzi_n {P : Int → Prop} {n i z : Int} (h : lzi P n i z) (hn : ¬ P i) : lzi P n (i + -1) z := by
  have k : ∀ j, i + -1 < j → (j ≤ i → ¬ P j) := fun j h1 h2 => by
    have : j = i := by omega
    rw [this]; exact hn
  rcases h with ⟨h1, h2, h3, h4⟩ | ⟨h1, h4⟩
  · refine Or.inl ⟨by omega, h2, h3, fun j g1 g2 => ?_⟩
    by_cases g : j ≤ i
    · exact k j g1 g
    · exact h4 j (by omega) g2
  · refine Or.inr ⟨h1, fun j g1 g2 => ?_⟩
    by_cases g : j ≤ i
    · exact k j g1 g
    · exact h4 j (by omega) g2
theorem lzi_e {P : Int → Prop} {n i z : Int} (h : lzi P n i z) (hi : i = -1) : lz P n z := by
  subst hi
  rcases h with ⟨h1, h2, h3, h4⟩ | ⟨h1, h4⟩
  · exact Or.inl ⟨by omega, h2, h3, fun j g1 g2 => h4 j (by omega) g2⟩
  · exact Or.inr ⟨h1, fun j g1 g2 => h4 j (by omega) g2⟩
theorem lzi_r {P : Int → Prop} {n i z : Int} (h : lzi P n i z) (hi : -1 ≤ i) (hn : 0 < n) : 0 ≤ z ∧ z < n := by
  rcases h with ⟨h1, h2, -, -⟩ | ⟨h1, -⟩ <;> omega
theorem lz_r {P : Int → Prop} {n z : Int} (h : lz P n z) (hn : 0 < n) : 0 ≤ z ∧ z < n := by
  rcases h with ⟨h1, h2, -, -⟩ | ⟨h1, -⟩ <;> omega
set_option maxHeartbeats 4000000 in
/-- isAlive -/
theorem xm_isAlive (l : Launch) (D : va_G) (cI cZ : ClassId) (h : Nat) (a : Nat → Nat) (X : oS) (pp : Int) (hp : ii_r pp) (hB1 : rg X 1 4 0 1) : oC dX l yX0_isAlive cX0_isAlive 2 (some .boolean) 0 0 D cI cZ h a X [.int (iI pp)] (fun z u => (al X pp ∧ z = 1 ∧ X = u) ∨ (¬ al X pp ∧ z = 0 ∧ X = u)) := by
  refine oC_of (own := RX0) (by decide) rfl (Nat.le_of_ble_eq_true rfl) rfl ?_
  intro p e s m below meth c ls A E hW hl
  have hx := E.1
  have hb := E.2.1
  have hl : lv_has ls 2 [(0, .ref h), (1, .int (iI pp))] := hl
  refine lv_iload_n hx hb dX0_isAlive_0 rfl (lv_at hl 1 rfl) ?_
  refine o_iflt (tgt := 22) hx hb dX0_isAlive_1 (by decide) (by omega) (fun c_1 => ?_) (fun c_1 => ?_)
  · refine o_iconst hx hb dX0_isAlive_22 ?_
    exact o_zret (z := 0) E hW dX0_isAlive_23 (by omega) (Or.inr ⟨by omega, rfl, rfl⟩)
  · refine lv_iload_n hx hb dX0_isAlive_4 rfl (lv_at hl 1 rfl) ?_
    refine o_iconst hx hb dX0_isAlive_5 ?_
    refine o_cgt (tgt := 22) hx hb dX0_isAlive_6 (by decide) (by omega) (by omega) (fun c_6 => ?_) (fun c_6 => ?_)
    · refine o_iconst hx hb dX0_isAlive_22 ?_
      exact o_zret (z := 0) E hW dX0_isAlive_23 (by omega) (Or.inr ⟨by omega, rfl, rfl⟩)
    · refine lv_aload_n hx hb dX0_isAlive_9 rfl (lv_at hl 0 rfl) ?_
      refine o_get E hW in_X0 rfl 1 (by decide) (v := .ref (a 1)) rfl q32 rfl dX0_isAlive_10 ?_
      refine lv_iload_n hx hb dX0_isAlive_13 rfl (lv_at hl 1 rfl) ?_
      have h_14 := hB1 pp (by omega) (by omega)
      refine o_zld E hW 1 ⟨by decide, rfl⟩ (by omega) (by omega) (by decide) (z := X 1 pp) rfl dX0_isAlive_14 ?_
      refine o_ifeq (tgt := 22) hx hb dX0_isAlive_15 (by decide) (by omega) (fun c_15 => ?_) (fun c_15 => ?_)
      · refine o_iconst hx hb dX0_isAlive_22 ?_
        exact o_zret (z := 0) E hW dX0_isAlive_23 (by omega) (Or.inr ⟨by omega, rfl, rfl⟩)
      · refine o_iconst hx hb dX0_isAlive_18 ?_
        refine lv_goto (tgt := 23) hx hb dX0_isAlive_19 (by decide) ?_
        exact o_zret (z := 1) E hW dX0_isAlive_23 (by omega) (Or.inl ⟨by omega, rfl, rfl⟩)
set_option maxHeartbeats 4000000 in
/-- isName -/
theorem xm_isName (l : Launch) (nn : Int) (hp : ii_r nn) : oCs l yX0_isName cX0_isName 1 (some .boolean) 0 0 [.int (iI nn)] (fun z => ((0 ≤ nn ∧ nn ≤ 3) ∧ z = 1) ∨ (¬ (0 ≤ nn ∧ nn ≤ 3) ∧ z = 0)) := by
  refine oCs_of (by decide) (Nat.le_of_ble_eq_true rfl) rfl ?_
  intro p e s m below meth c ls E hl
  have hx := E.1
  have hb := E.2.1
  have hl : lv_has ls 1 [(0, .int (iI nn))] := hl
  refine lv_iload_n hx hb dX0_isName_0 rfl (lv_at hl 0 rfl) ?_
  refine o_iflt (tgt := 13) hx hb dX0_isName_1 (by decide) (by omega) (fun c_1 => ?_) (fun c_1 => ?_)
  · refine o_iconst hx hb dX0_isName_13 ?_
    exact o_sret (z := 0) E dX0_isName_14 (by decide) (Or.inr ⟨by omega, rfl⟩)
  · refine lv_iload_n hx hb dX0_isName_4 rfl (lv_at hl 0 rfl) ?_
    refine o_iconst hx hb dX0_isName_5 ?_
    refine o_cgt (tgt := 13) hx hb dX0_isName_6 (by decide) (by omega) (by omega) (fun c_6 => ?_) (fun c_6 => ?_)
    · refine o_iconst hx hb dX0_isName_13 ?_
      exact o_sret (z := 0) E dX0_isName_14 (by decide) (Or.inr ⟨by omega, rfl⟩)
    · refine o_iconst hx hb dX0_isName_9 ?_
      refine lv_goto (tgt := 14) hx hb dX0_isName_10 (by decide) ?_
      exact o_sret (z := 1) E dX0_isName_14 (by decide) (Or.inl ⟨by omega, rfl⟩)
set_option maxHeartbeats 4000000 in
/-- openingOf -/
theorem xm_openingOf (l : Launch) (D : va_G) (cI cZ : ClassId) (h : Nat) (a : Nat → Nat) (X : oS) (pp : Int) (dd : Int) (hp : ii_r pp) (hd : ii_r dd) (hB1 : rg X 1 4 0 1) (hB2 : rg X 2 24 (-1) 23) : oC dX l yX0_openingOf cX0_openingOf 3 (some .int) 1 21 D cI cZ h a X [.int (iI pp), .int (iI dd)] (fun z u => (al X pp ∧ 0 ≤ dd ∧ dd ≤ 5 ∧ z = X 2 (6 * pp + dd) ∧ X = u) ∨ (¬ (al X pp ∧ 0 ≤ dd ∧ dd ≤ 5) ∧ z = -1 ∧ X = u)) := by
  refine oC_of (own := RX0) (by decide) rfl (Nat.le_of_ble_eq_true rfl) rfl ?_
  intro p e s m below meth c ls A E hW hl
  have hx := E.1
  have hb := E.2.1
  have hl : lv_has ls 3 [(0, .ref h), (1, .int (iI pp)), (2, .int (iI dd))] := hl
  refine lv_aload_n hx hb dX0_openingOf_0 rfl (lv_at hl 0 rfl) ?_
  refine lv_iload_n hx hb dX0_openingOf_1 rfl (lv_at hl 1 rfl) ?_
  refine o_call (nA := 1) (As := [.int (iI pp)]) (rest := []) E hW hl (xm_isAlive l D cI cZ h a X pp hp hB1) (lw_V q86 q88 qs0 q21 q89) rfl (by decide +kernel) rfl ⟨Nat.le_of_ble_eq_true rfl, Nat.le_of_ble_eq_true rfl⟩ rfl (Nat.le_of_ble_eq_true rfl) ⟨Nat.le_of_ble_eq_true rfl, Nat.le_of_ble_eq_true rfl⟩ dX0_openingOf_2 (fun z_2 X_2 H locs hq hW => ?_)
  rcases hq with ⟨q_2, rfl, rfl⟩ | ⟨q_2, rfl, rfl⟩
  · refine o_ifeq (tgt := 17) hx hb dX0_openingOf_5 (by decide) (by omega) (fun q => absurd q (by decide)) (fun _ => ?_)
    refine lv_iload_n hx hb dX0_openingOf_8 rfl (lv_at hl 2 rfl) ?_
    refine o_iflt (tgt := 17) hx hb dX0_openingOf_9 (by decide) (by omega) (fun c_9 => ?_) (fun c_9 => ?_)
    · refine o_iconst hx hb dX0_openingOf_17 ?_
      exact o_ret (z := (-1)) E hW dX0_openingOf_18 (Or.inr ⟨by omega, rfl, rfl⟩)
    · refine lv_iload_n hx hb dX0_openingOf_12 rfl (lv_at hl 2 rfl) ?_
      refine o_iconst hx hb dX0_openingOf_13 ?_
      refine o_cle (tgt := 19) hx hb dX0_openingOf_14 (by decide) (by omega) (by omega) (fun c_14 => ?_) (fun c_14 => ?_)
      · refine lv_aload_n hx hb dX0_openingOf_19 rfl (lv_at hl 0 rfl) ?_
        refine o_get E hW in_X0 rfl 2 (by decide) (v := .ref (a 2)) rfl q33 rfl dX0_openingOf_20 ?_
        refine o_bipush hx hb dX0_openingOf_23 (by decide) ?_
        refine lv_iload_n hx hb dX0_openingOf_25 rfl (lv_at hl 1 rfl) ?_
        refine o_imul hx hb dX0_openingOf_26 ?_
        refine lv_iload_n hx hb dX0_openingOf_27 rfl (lv_at hl 2 rfl) ?_
        refine o_iadd hx hb dX0_openingOf_28 ?_
        have h_29 := hB2 ((6 * pp) + dd) (by omega) (by omega)
        refine o_ld E hW 2 ⟨by decide, rfl⟩ (by omega) (by omega) (by decide) (z := X 2 ((6 * pp) + dd)) rfl dX0_openingOf_29 ?_
        exact o_ret (z := (X 2 ((6 * pp) + dd))) E hW dX0_openingOf_30 (Or.inl ⟨by omega, by omega, by omega, rfl, rfl⟩)
      · refine o_iconst hx hb dX0_openingOf_17 ?_
        exact o_ret (z := (-1)) E hW dX0_openingOf_18 (Or.inr ⟨by omega, rfl, rfl⟩)
  · refine o_ifeq (tgt := 17) hx hb dX0_openingOf_5 (by decide) (by omega) (fun _ => ?_) (fun q => absurd q (by decide))
    refine o_iconst hx hb dX0_openingOf_17 ?_
    exact o_ret (z := (-1)) E hW dX0_openingOf_18 (Or.inr ⟨by omega, rfl, rfl⟩)
set_option maxHeartbeats 4000000 in
/-- freeDescriptor -/
theorem xm_freeDescriptor (l : Launch) (D : va_G) (cI cZ : ClassId) (h : Nat) (a : Nat → Nat) (X : oS) (pp : Int) (fm : Int) (hp : 0 ≤ pp ∧ pp ≤ 3) (hf : 0 ≤ fm ∧ fm ≤ 6) (hB2 : rg X 2 24 (-1) 23) : oC dX l yX0_freeDescriptor cX0_freeDescriptor 4 (some .int) 0 0 D cI cZ h a X [.int (iI pp), .int (iI fm)] (fun z u => ((z = -1 ∧ X = u ∧ ∀ d, fm ≤ d → d < 6 → 0 ≤ X 2 (6 * pp + d)) ∨ (0 ≤ z ∧ X = u ∧ fm ≤ z ∧ z < 6 ∧ X 2 (6 * pp + z) < 0 ∧ ∀ d, fm ≤ d → d < z → 0 ≤ X 2 (6 * pp + d)))) := by
  refine oC_of (own := RX0) (by decide) rfl (Nat.le_of_ble_eq_true rfl) rfl ?_
  intro p e s m below meth c ls A E hW hl
  have hx := E.1
  have hb := E.2.1
  have hl : lv_has ls 4 [(0, .ref h), (1, .int (iI pp)), (2, .int (iI fm))] := hl
  refine lv_iload_n hx hb dX0_freeDescriptor_0 rfl (lv_at hl 2 rfl) ?_
  refine lv_istore_n (lv' := [(3, .int (iI fm)), (0, .ref h), (1, .int (iI pp)), (2, .int (iI fm))]) hx hb dX0_freeDescriptor_1 rfl hl (by decide) rfl (fun ls hl => ?_)
  have lp_2 : ∀ (n : Nat) (i : Int)  (H : Heap) (locs : List Loc) (ls : Array Slot), 6 - i < (n : Int) → (fm ≤ i ∧ i ≤ 6) → (∀ d, fm ≤ d → d < i → 0 ≤ X 2 (6 * pp + d)) → mW dX D cI cZ h a A s X H locs → lv_has ls 4 [(0, .ref h), (1, .int (iI pp)), (2, .int (iI fm)), (3, .int (iI i))] → W p l e ({ frames := 0, cells := 0, slots := 0, locals := 0 }) s m (Value.ref h :: [.int (iI pp), .int (iI fm)]).toArray below meth c H locs 0 0 (MQ below (oQc dX D cI cZ h a A (fun z u => ((z = -1 ∧ X = u ∧ ∀ d, fm ≤ d → d < 6 → 0 ≤ X 2 (6 * pp + d)) ∨ (0 ≤ z ∧ X = u ∧ fm ≤ z ∧ z < 6 ∧ X 2 (6 * pp + z) < 0 ∧ ∀ d, fm ≤ d → d < z → 0 ≤ X 2 (6 * pp + d))))) (Value.ref h :: [.int (iI pp), .int (iI fm)]).toArray s 0 0 A) (F0 m 2 ls []) := by
    intro n
    induction n with
    | zero =>
      intro i H locs ls hn hi hI hW hl
      exfalso
      omega
    | succ n ih =>
      intro i H locs ls hn hi hI hW hl
      refine lv_iload_n hx hb dX0_freeDescriptor_2 rfl (lv_at hl 3 rfl) ?_
      refine o_bipush hx hb dX0_freeDescriptor_3 (by decide) ?_
      refine o_cge (tgt := 30) hx hb dX0_freeDescriptor_5 (by decide) (by omega) (by omega) (fun c_5 => ?_) (fun c_5 => ?_)
      · refine o_iconst hx hb dX0_freeDescriptor_30 ?_
        exact o_ret (z := (-1)) E hW dX0_freeDescriptor_31 (Or.inl ⟨rfl, rfl, fun d h1 h2 => hI d h1 (by omega)⟩)
      · refine lv_aload_n hx hb dX0_freeDescriptor_8 rfl (lv_at hl 0 rfl) ?_
        refine o_get E hW in_X0 rfl 2 (by decide) (v := .ref (a 2)) rfl q33 rfl dX0_freeDescriptor_9 ?_
        refine o_bipush hx hb dX0_freeDescriptor_12 (by decide) ?_
        refine lv_iload_n hx hb dX0_freeDescriptor_14 rfl (lv_at hl 1 rfl) ?_
        refine o_imul hx hb dX0_freeDescriptor_15 ?_
        refine lv_iload_n hx hb dX0_freeDescriptor_16 rfl (lv_at hl 3 rfl) ?_
        refine o_iadd hx hb dX0_freeDescriptor_17 ?_
        have h_18 := hB2 ((6 * pp) + i) (by omega) (by omega)
        refine o_ld E hW 2 ⟨by decide, rfl⟩ (by omega) (by omega) (by decide) (z := X 2 ((6 * pp) + i)) rfl dX0_freeDescriptor_18 ?_
        refine o_ifge (tgt := 24) hx hb dX0_freeDescriptor_19 (by decide) (by omega) (fun c_19 => ?_) (fun c_19 => ?_)
        · refine o_iinc (lv' := [(3, .int (iI (i + 1))), (0, .ref h), (1, .int (iI pp)), (2, .int (iI fm))]) hx hb dX0_freeDescriptor_24 hl (k := 3) rfl (by decide) rfl (fun ls hl => ?_)
          refine lv_goto (tgt := 2) hx hb dX0_freeDescriptor_27 (by decide) ?_
          exact ih (i + 1)  _ _ _ (by omega) ⟨by omega, by omega⟩ (fun d h1 h2 => by rcases Int.lt_or_eq_of_le (show d ≤ i by omega) with q | q <;> first | exact hI d h1 q | (subst q; omega)) hW (lv_sub hl [1, 2, 3, 0] rfl)
        · refine lv_iload_n hx hb dX0_freeDescriptor_22 rfl (lv_at hl 3 rfl) ?_
          exact o_ret (z := i) E hW dX0_freeDescriptor_23 (Or.inr ⟨by omega, rfl, by omega, by omega, by omega, hI⟩)
  exact lp_2 7 fm  _ _ _ (by omega) ⟨by omega, by omega⟩ (fun d h1 h2 => absurd h1 (by omega)) hW (lv_sub hl [1, 2, 3, 0] rfl)
set_option maxHeartbeats 4000000 in
/-- newOpening -/
theorem xm_newOpening (l : Launch) (D : va_G) (cI cZ : ClassId) (h : Nat) (a : Nat → Nat) (X : oS) (so : Int) (tg : Int) (hB3 : rg X 3 24 0 24) : oC dX l yX0_newOpening cX0_newOpening 5 (some .int) 0 0 D cI cZ h a X [.int (iI so), .int (iI tg)] (fun z u => lz (fun o => X 3 o = 0) 24 z ∧ u = su (su (su (su X 3 z 1) 4 z so) 5 z tg) 6 z 0) := by
  refine oC_of (own := RX0) (by decide) rfl (Nat.le_of_ble_eq_true rfl) rfl ?_
  intro p e s m below meth c ls A E hW hl
  have hx := E.1
  have hb := E.2.1
  have hl : lv_has ls 5 [(0, .ref h), (1, .int (iI so)), (2, .int (iI tg))] := hl
  refine o_iconst hx hb dX0_newOpening_0 ?_
  refine lv_istore_n (lv' := [(3, .int (iI 0)), (0, .ref h), (1, .int (iI so)), (2, .int (iI tg))]) hx hb dX0_newOpening_1 rfl hl (by decide) rfl (fun ls hl => ?_)
  refine o_bipush hx hb dX0_newOpening_2 (by decide) ?_
  refine lv_istore (lv' := [(4, .int (iI 23)), (3, .int (iI 0)), (0, .ref h), (1, .int (iI so)), (2, .int (iI tg))]) hx hb dX0_newOpening_4 hl (by decide) rfl (fun ls hl => ?_)
  have lp_6 : ∀ (n : Nat) (f : Int) (i : Int)  (H : Heap) (locs : List Loc) (ls : Array Slot), i + 1 < (n : Int) → (-1 ≤ i ∧ i ≤ 23) → (lzi (fun o => X 3 o = 0) 24 i f) → mW dX D cI cZ h a A s X H locs → lv_has ls 5 [(0, .ref h), (1, .int (iI so)), (2, .int (iI tg)), (3, .int (iI f)), (4, .int (iI i))] → W p l e ({ frames := 0, cells := 0, slots := 0, locals := 0 }) s m (Value.ref h :: [.int (iI so), .int (iI tg)]).toArray below meth c H locs 0 0 (MQ below (oQc dX D cI cZ h a A (fun z u => lz (fun o => X 3 o = 0) 24 z ∧ u = su (su (su (su X 3 z 1) 4 z so) 5 z tg) 6 z 0)) (Value.ref h :: [.int (iI so), .int (iI tg)]).toArray s 0 0 A) (F0 m 6 ls []) := by
    intro n
    induction n with
    | zero =>
      intro f i H locs ls hn hi hI hW hl
      exfalso
      omega
    | succ n ih =>
      intro f i H locs ls hn hi hI hW hl
      have hr := lzi_r hI (by omega) (by omega)
      refine lv_iload hx hb dX0_newOpening_6 (lv_at hl 4 rfl) ?_
      refine o_iflt (tgt := 34) hx hb dX0_newOpening_8 (by decide) (by omega) (fun c_8 => ?_) (fun c_8 => ?_)
      · refine lv_aload_n hx hb dX0_newOpening_34 rfl (lv_at hl 0 rfl) ?_
        refine o_get E hW in_X0 rfl 3 (by decide) (v := .ref (a 3)) rfl q34 rfl dX0_newOpening_35 ?_
        refine lv_iload_n hx hb dX0_newOpening_38 rfl (lv_at hl 3 rfl) ?_
        refine o_iconst hx hb dX0_newOpening_39 ?_
        refine o_st E hW 3 ⟨by decide, rfl⟩ (by omega) (by omega) (by decide) dX0_newOpening_40 (fun H locs hW => ?_)
        refine lv_aload_n hx hb dX0_newOpening_41 rfl (lv_at hl 0 rfl) ?_
        refine o_get E hW in_X0 rfl 4 (by decide) (v := .ref (a 4)) rfl q35 rfl dX0_newOpening_42 ?_
        refine lv_iload_n hx hb dX0_newOpening_45 rfl (lv_at hl 3 rfl) ?_
        refine lv_iload_n hx hb dX0_newOpening_46 rfl (lv_at hl 1 rfl) ?_
        refine o_st E hW 4 ⟨by decide, rfl⟩ (by omega) (by omega) (by decide) dX0_newOpening_47 (fun H locs hW => ?_)
        refine lv_aload_n hx hb dX0_newOpening_48 rfl (lv_at hl 0 rfl) ?_
        refine o_get E hW in_X0 rfl 5 (by decide) (v := .ref (a 5)) rfl q36 rfl dX0_newOpening_49 ?_
        refine lv_iload_n hx hb dX0_newOpening_52 rfl (lv_at hl 3 rfl) ?_
        refine lv_iload_n hx hb dX0_newOpening_53 rfl (lv_at hl 2 rfl) ?_
        refine o_st E hW 5 ⟨by decide, rfl⟩ (by omega) (by omega) (by decide) dX0_newOpening_54 (fun H locs hW => ?_)
        refine lv_aload_n hx hb dX0_newOpening_55 rfl (lv_at hl 0 rfl) ?_
        refine o_get E hW in_X0 rfl 6 (by decide) (v := .ref (a 6)) rfl q37 rfl dX0_newOpening_56 ?_
        refine lv_iload_n hx hb dX0_newOpening_59 rfl (lv_at hl 3 rfl) ?_
        refine o_iconst hx hb dX0_newOpening_60 ?_
        refine o_st E hW 6 ⟨by decide, rfl⟩ (by omega) (by omega) (by decide) dX0_newOpening_61 (fun H locs hW => ?_)
        refine lv_iload_n hx hb dX0_newOpening_62 rfl (lv_at hl 3 rfl) ?_
        exact o_ret (z := f) E hW dX0_newOpening_63 (⟨lzi_e hI (by omega), rfl⟩)
      · refine lv_aload_n hx hb dX0_newOpening_11 rfl (lv_at hl 0 rfl) ?_
        refine o_get E hW in_X0 rfl 3 (by decide) (v := .ref (a 3)) rfl q34 rfl dX0_newOpening_12 ?_
        refine lv_iload hx hb dX0_newOpening_15 (lv_at hl 4 rfl) ?_
        have h_17 := hB3 i (by omega) (by omega)
        refine o_ld E hW 3 ⟨by decide, rfl⟩ (by omega) (by omega) (by decide) (z := X 3 i) rfl dX0_newOpening_17 ?_
        refine o_ifne (tgt := 26) hx hb dX0_newOpening_18 (by decide) (by omega) (fun c_18 => ?_) (fun c_18 => ?_)
        · refine lv_iload_n hx hb dX0_newOpening_26 rfl (lv_at hl 3 rfl) ?_
          refine lv_istore_n (lv' := [(3, .int (iI f)), (0, .ref h), (1, .int (iI so)), (2, .int (iI tg)), (4, .int (iI i))]) hx hb dX0_newOpening_27 rfl hl (by decide) rfl (fun ls hl => ?_)
          refine o_iinc (lv' := [(4, .int (iI (i + (-1)))), (3, .int (iI f)), (0, .ref h), (1, .int (iI so)), (2, .int (iI tg))]) hx hb dX0_newOpening_28 hl (k := 4) rfl (by decide) rfl (fun ls hl => ?_)
          refine lv_goto (tgt := 6) hx hb dX0_newOpening_31 (by decide) ?_
          exact ih f (i + (-1))  _ _ _ (by omega) ⟨by omega, by omega⟩ (lzi_n hI (by omega)) hW (lv_sub hl [2, 3, 4, 1, 0] rfl)
        · refine lv_iload hx hb dX0_newOpening_21 (lv_at hl 4 rfl) ?_
          refine lv_goto (tgt := 27) hx hb dX0_newOpening_23 (by decide) ?_
          refine lv_istore_n (lv' := [(3, .int (iI i)), (0, .ref h), (1, .int (iI so)), (2, .int (iI tg)), (4, .int (iI i))]) hx hb dX0_newOpening_27 rfl hl (by decide) rfl (fun ls hl => ?_)
          refine o_iinc (lv' := [(4, .int (iI (i + (-1)))), (3, .int (iI i)), (0, .ref h), (1, .int (iI so)), (2, .int (iI tg))]) hx hb dX0_newOpening_28 hl (k := 4) rfl (by decide) rfl (fun ls hl => ?_)
          refine lv_goto (tgt := 6) hx hb dX0_newOpening_31 (by decide) ?_
          exact ih i (i + (-1))  _ _ _ (by omega) ⟨by omega, by omega⟩ (lzi_y (by omega) (by omega)) hW (lv_sub hl [2, 3, 4, 1, 0] rfl)
  exact lp_6 25 0 23  _ _ _ (by omega) ⟨by omega, by omega⟩ (lzi_0 (by omega)) hW (lv_sub hl [2, 3, 4, 1, 0] rfl)
set_option maxHeartbeats 4000000 in
/-- freeFile -/
theorem xm_freeFile (l : Launch) (D : va_G) (cI cZ : ClassId) (h : Nat) (a : Nat → Nat) (X : oS)  (hB8 : rg X 8 28 0 30) : oC dX l yX0_freeFile cX0_freeFile 3 (some .int) 0 0 D cI cZ h a X [] (fun z u => lz (fun f => X 8 f = 0) 28 z ∧ X = u) := by
  refine oC_of (own := RX0) (by decide) rfl (Nat.le_of_ble_eq_true rfl) rfl ?_
  intro p e s m below meth c ls A E hW hl
  have hx := E.1
  have hb := E.2.1
  have hl : lv_has ls 3 [(0, .ref h)] := hl
  refine o_iconst hx hb dX0_freeFile_0 ?_
  refine lv_istore_n (lv' := [(1, .int (iI 0)), (0, .ref h)]) hx hb dX0_freeFile_1 rfl hl (by decide) rfl (fun ls hl => ?_)
  refine o_bipush hx hb dX0_freeFile_2 (by decide) ?_
  refine lv_istore_n (lv' := [(2, .int (iI 27)), (1, .int (iI 0)), (0, .ref h)]) hx hb dX0_freeFile_4 rfl hl (by decide) rfl (fun ls hl => ?_)
  have lp_5 : ∀ (n : Nat) (f : Int) (i : Int)  (H : Heap) (locs : List Loc) (ls : Array Slot), i + 1 < (n : Int) → (-1 ≤ i ∧ i ≤ 27) → (lzi (fun f => X 8 f = 0) 28 i f) → mW dX D cI cZ h a A s X H locs → lv_has ls 3 [(0, .ref h), (1, .int (iI f)), (2, .int (iI i))] → W p l e ({ frames := 0, cells := 0, slots := 0, locals := 0 }) s m (Value.ref h :: []).toArray below meth c H locs 0 0 (MQ below (oQc dX D cI cZ h a A (fun z u => lz (fun f => X 8 f = 0) 28 z ∧ X = u)) (Value.ref h :: []).toArray s 0 0 A) (F0 m 5 ls []) := by
    intro n
    induction n with
    | zero =>
      intro f i H locs ls hn hi hI hW hl
      exfalso
      omega
    | succ n ih =>
      intro f i H locs ls hn hi hI hW hl
      have hr := lzi_r hI (by omega) (by omega)
      refine lv_iload_n hx hb dX0_freeFile_5 rfl (lv_at hl 2 rfl) ?_
      refine o_iflt (tgt := 30) hx hb dX0_freeFile_6 (by decide) (by omega) (fun c_6 => ?_) (fun c_6 => ?_)
      · refine lv_iload_n hx hb dX0_freeFile_30 rfl (lv_at hl 1 rfl) ?_
        exact o_ret (z := f) E hW dX0_freeFile_31 (⟨lzi_e hI (by omega), rfl⟩)
      · refine lv_aload_n hx hb dX0_freeFile_9 rfl (lv_at hl 0 rfl) ?_
        refine o_get E hW in_X0 rfl 8 (by decide) (v := .ref (a 8)) rfl q39 rfl dX0_freeFile_10 ?_
        refine lv_iload_n hx hb dX0_freeFile_13 rfl (lv_at hl 2 rfl) ?_
        have h_14 := hB8 i (by omega) (by omega)
        refine o_ld E hW 8 ⟨by decide, rfl⟩ (by omega) (by omega) (by decide) (z := X 8 i) rfl dX0_freeFile_14 ?_
        refine o_ifne (tgt := 22) hx hb dX0_freeFile_15 (by decide) (by omega) (fun c_15 => ?_) (fun c_15 => ?_)
        · refine lv_iload_n hx hb dX0_freeFile_22 rfl (lv_at hl 1 rfl) ?_
          refine lv_istore_n (lv' := [(1, .int (iI f)), (0, .ref h), (2, .int (iI i))]) hx hb dX0_freeFile_23 rfl hl (by decide) rfl (fun ls hl => ?_)
          refine o_iinc (lv' := [(2, .int (iI (i + (-1)))), (1, .int (iI f)), (0, .ref h)]) hx hb dX0_freeFile_24 hl (k := 2) rfl (by decide) rfl (fun ls hl => ?_)
          refine lv_goto (tgt := 5) hx hb dX0_freeFile_27 (by decide) ?_
          exact ih f (i + (-1))  _ _ _ (by omega) ⟨by omega, by omega⟩ (lzi_n hI (by omega)) hW (lv_sub hl [2, 1, 0] rfl)
        · refine lv_iload_n hx hb dX0_freeFile_18 rfl (lv_at hl 2 rfl) ?_
          refine lv_goto (tgt := 23) hx hb dX0_freeFile_19 (by decide) ?_
          refine lv_istore_n (lv' := [(1, .int (iI i)), (0, .ref h), (2, .int (iI i))]) hx hb dX0_freeFile_23 rfl hl (by decide) rfl (fun ls hl => ?_)
          refine o_iinc (lv' := [(2, .int (iI (i + (-1)))), (1, .int (iI i)), (0, .ref h)]) hx hb dX0_freeFile_24 hl (k := 2) rfl (by decide) rfl (fun ls hl => ?_)
          refine lv_goto (tgt := 5) hx hb dX0_freeFile_27 (by decide) ?_
          exact ih i (i + (-1))  _ _ _ (by omega) ⟨by omega, by omega⟩ (lzi_y (by omega) (by omega)) hW (lv_sub hl [2, 1, 0] rfl)
  exact lp_5 29 0 27  _ _ _ (by omega) ⟨by omega, by omega⟩ (lzi_0 (by omega)) hW (lv_sub hl [2, 1, 0] rfl)
set_option maxHeartbeats 4000000 in
/-- freePipe -/
theorem xm_freePipe (l : Launch) (D : va_G) (cI cZ : ClassId) (h : Nat) (a : Nat → Nat) (X : oS)  (hB11 : rg X 11 24 0 1) (hB12 : rg X 12 24 0 1) : oC dX l yX0_freePipe cX0_freePipe 3 (some .int) 0 0 D cI cZ h a X [] (fun z u => lz (fun f => X 11 f = 0 ∧ X 12 f = 0) 24 z ∧ X = u) := by
  refine oC_of (own := RX0) (by decide) rfl (Nat.le_of_ble_eq_true rfl) rfl ?_
  intro p e s m below meth c ls A E hW hl
  have hx := E.1
  have hb := E.2.1
  have hl : lv_has ls 3 [(0, .ref h)] := hl
  refine o_iconst hx hb dX0_freePipe_0 ?_
  refine lv_istore_n (lv' := [(1, .int (iI 0)), (0, .ref h)]) hx hb dX0_freePipe_1 rfl hl (by decide) rfl (fun ls hl => ?_)
  refine o_bipush hx hb dX0_freePipe_2 (by decide) ?_
  refine lv_istore_n (lv' := [(2, .int (iI 23)), (1, .int (iI 0)), (0, .ref h)]) hx hb dX0_freePipe_4 rfl hl (by decide) rfl (fun ls hl => ?_)
  have lp_5 : ∀ (n : Nat) (f : Int) (i : Int)  (H : Heap) (locs : List Loc) (ls : Array Slot), i + 1 < (n : Int) → (-1 ≤ i ∧ i ≤ 23) → (lzi (fun f => X 11 f = 0 ∧ X 12 f = 0) 24 i f) → mW dX D cI cZ h a A s X H locs → lv_has ls 3 [(0, .ref h), (1, .int (iI f)), (2, .int (iI i))] → W p l e ({ frames := 0, cells := 0, slots := 0, locals := 0 }) s m (Value.ref h :: []).toArray below meth c H locs 0 0 (MQ below (oQc dX D cI cZ h a A (fun z u => lz (fun f => X 11 f = 0 ∧ X 12 f = 0) 24 z ∧ X = u)) (Value.ref h :: []).toArray s 0 0 A) (F0 m 5 ls []) := by
    intro n
    induction n with
    | zero =>
      intro f i H locs ls hn hi hI hW hl
      exfalso
      omega
    | succ n ih =>
      intro f i H locs ls hn hi hI hW hl
      have hr := lzi_r hI (by omega) (by omega)
      refine lv_iload_n hx hb dX0_freePipe_5 rfl (lv_at hl 2 rfl) ?_
      refine o_iflt (tgt := 39) hx hb dX0_freePipe_6 (by decide) (by omega) (fun c_6 => ?_) (fun c_6 => ?_)
      · refine lv_iload_n hx hb dX0_freePipe_39 rfl (lv_at hl 1 rfl) ?_
        exact o_ret (z := f) E hW dX0_freePipe_40 (⟨lzi_e hI (by omega), rfl⟩)
      · refine lv_aload_n hx hb dX0_freePipe_9 rfl (lv_at hl 0 rfl) ?_
        refine o_get E hW in_X0 rfl 11 (by decide) (v := .ref (a 11)) rfl q42 rfl dX0_freePipe_10 ?_
        refine lv_iload_n hx hb dX0_freePipe_13 rfl (lv_at hl 2 rfl) ?_
        have h_14 := hB11 i (by omega) (by omega)
        refine o_zld E hW 11 ⟨by decide, rfl⟩ (by omega) (by omega) (by decide) (z := X 11 i) rfl dX0_freePipe_14 ?_
        refine o_ifne (tgt := 27) hx hb dX0_freePipe_15 (by decide) (by omega) (fun c_15 => ?_) (fun c_15 => ?_)
        · refine lv_iload_n hx hb dX0_freePipe_27 rfl (lv_at hl 1 rfl) ?_
          refine lv_goto (tgt := 32) hx hb dX0_freePipe_28 (by decide) ?_
          refine lv_istore_n (lv' := [(1, .int (iI f)), (0, .ref h), (2, .int (iI i))]) hx hb dX0_freePipe_32 rfl hl (by decide) rfl (fun ls hl => ?_)
          refine o_iinc (lv' := [(2, .int (iI (i + (-1)))), (1, .int (iI f)), (0, .ref h)]) hx hb dX0_freePipe_33 hl (k := 2) rfl (by decide) rfl (fun ls hl => ?_)
          refine lv_goto (tgt := 5) hx hb dX0_freePipe_36 (by decide) ?_
          exact ih f (i + (-1))  _ _ _ (by omega) ⟨by omega, by omega⟩ (lzi_n hI (by omega)) hW (lv_sub hl [2, 1, 0] rfl)
        · refine lv_aload_n hx hb dX0_freePipe_18 rfl (lv_at hl 0 rfl) ?_
          refine o_get E hW in_X0 rfl 12 (by decide) (v := .ref (a 12)) rfl q43 rfl dX0_freePipe_19 ?_
          refine lv_iload_n hx hb dX0_freePipe_22 rfl (lv_at hl 2 rfl) ?_
          have h_23 := hB12 i (by omega) (by omega)
          refine o_zld E hW 12 ⟨by decide, rfl⟩ (by omega) (by omega) (by decide) (z := X 12 i) rfl dX0_freePipe_23 ?_
          refine o_ifeq (tgt := 31) hx hb dX0_freePipe_24 (by decide) (by omega) (fun c_24 => ?_) (fun c_24 => ?_)
          · refine lv_iload_n hx hb dX0_freePipe_31 rfl (lv_at hl 2 rfl) ?_
            refine lv_istore_n (lv' := [(1, .int (iI i)), (0, .ref h), (2, .int (iI i))]) hx hb dX0_freePipe_32 rfl hl (by decide) rfl (fun ls hl => ?_)
            refine o_iinc (lv' := [(2, .int (iI (i + (-1)))), (1, .int (iI i)), (0, .ref h)]) hx hb dX0_freePipe_33 hl (k := 2) rfl (by decide) rfl (fun ls hl => ?_)
            refine lv_goto (tgt := 5) hx hb dX0_freePipe_36 (by decide) ?_
            exact ih i (i + (-1))  _ _ _ (by omega) ⟨by omega, by omega⟩ (lzi_y (by omega) (by omega)) hW (lv_sub hl [2, 1, 0] rfl)
          · refine lv_iload_n hx hb dX0_freePipe_27 rfl (lv_at hl 1 rfl) ?_
            refine lv_goto (tgt := 32) hx hb dX0_freePipe_28 (by decide) ?_
            refine lv_istore_n (lv' := [(1, .int (iI f)), (0, .ref h), (2, .int (iI i))]) hx hb dX0_freePipe_32 rfl hl (by decide) rfl (fun ls hl => ?_)
            refine o_iinc (lv' := [(2, .int (iI (i + (-1)))), (1, .int (iI f)), (0, .ref h)]) hx hb dX0_freePipe_33 hl (k := 2) rfl (by decide) rfl (fun ls hl => ?_)
            refine lv_goto (tgt := 5) hx hb dX0_freePipe_36 (by decide) ?_
            exact ih f (i + (-1))  _ _ _ (by omega) ⟨by omega, by omega⟩ (lzi_n hI (by omega)) hW (lv_sub hl [2, 1, 0] rfl)
  exact lp_5 25 0 23  _ _ _ (by omega) ⟨by omega, by omega⟩ (lzi_0 (by omega)) hW (lv_sub hl [2, 1, 0] rfl)
end
section
/-! DescriptorTable: letting an opening go, bytes of files and pipes -/
set_option maxRecDepth 100000
def lg (X : oS) (o : Int) : oS :=
  if 0 < X 3 o - 1 then su X 3 o (X 3 o - 1)
  else if X 4 o = 1 then su (su X 3 o (X 3 o - 1)) 8 (X 5 o) (X 8 (X 5 o) - 1)
  else if X 4 o = 2 then su (su X 3 o (X 3 o - 1)) 11 (X 5 o) 0
  else su (su X 3 o (X 3 o - 1)) 12 (X 5 o) 0
abbrev xq_writeFile (X : oS) (oo vv : Int) : Int → oS → Prop := fun z u =>
  (8 ≤ X 6 oo ∧ z = -2 ∧ X = u) ∨
  (X 6 oo < 8 ∧ X 6 oo = X 9 (X 5 oo) ∧ z = 0 ∧ u = su (su (su X 10 (8 * X 5 oo + X 6 oo) vv) 6 oo (X 6 oo + 1)) 9 (X 5 oo) (X 6 oo + 1)) ∨
  (X 6 oo < 8 ∧ X 6 oo ≠ X 9 (X 5 oo) ∧ z = 0 ∧ u = su (su X 10 (8 * X 5 oo + X 6 oo) vv) 6 oo (X 6 oo + 1))
abbrev xq_readFile (X : oS) (oo : Int) : Int → oS → Prop := fun z u =>
  (X 9 (X 5 oo) ≤ X 6 oo ∧ z = -5 ∧ X = u) ∨ (X 6 oo < X 9 (X 5 oo) ∧ z = X 10 (8 * X 5 oo + X 6 oo) ∧ u = su X 6 oo (X 6 oo + 1))
abbrev xq_writePipe (X : oS) (tp vv : Int) : Int → oS → Prop := fun z u =>
  (X 11 tp = 0 ∧ z = -3 ∧ X = u) ∨ (X 11 tp ≠ 0 ∧ X 14 tp = 6 ∧ z = -4 ∧ X = u) ∨
  (X 11 tp ≠ 0 ∧ X 14 tp ≠ 6 ∧ X 13 tp + X 14 tp < 6 ∧ z = 0 ∧ u = su (su X 15 (6 * tp + (X 13 tp + X 14 tp)) vv) 14 tp (X 14 tp + 1)) ∨
  (X 11 tp ≠ 0 ∧ X 14 tp ≠ 6 ∧ 6 ≤ X 13 tp + X 14 tp ∧ z = 0 ∧ u = su (su X 15 (6 * tp + (X 13 tp + X 14 tp - 6)) vv) 14 tp (X 14 tp + 1))
abbrev xq_readPipe (X : oS) (tp : Int) : Int → oS → Prop := fun z u =>
  (X 14 tp = 0 ∧ X 12 tp ≠ 0 ∧ z = -4 ∧ X = u) ∨ (X 14 tp = 0 ∧ X 12 tp = 0 ∧ z = -5 ∧ X = u) ∨
  (X 14 tp ≠ 0 ∧ X 13 tp = 5 ∧ z = X 15 (6 * tp + X 13 tp) ∧ u = su (su X 13 tp 0) 14 tp (X 14 tp - 1)) ∨
  (X 14 tp ≠ 0 ∧ X 13 tp ≠ 5 ∧ z = X 15 (6 * tp + X 13 tp) ∧ u = su (su X 13 tp (X 13 tp + 1)) 14 tp (X 14 tp - 1))
set_option maxHeartbeats 4000000 in
/-- letGo -/
theorem xm_letGo (l : Launch) (D : va_G) (cI cZ : ClassId) (h : Nat) (a : Nat → Nat) (X : oS) (oo : Int) (ho : 0 ≤ oo ∧ oo < 24) (h3 : 0 ≤ X 3 oo ∧ X 3 oo ≤ 24) (h4 : 0 ≤ X 4 oo ∧ X 4 oo ≤ 3) (h5 : 0 ≤ X 5 oo ∧ X 5 oo ≤ 27) (h6 : X 4 oo ≠ 1 → X 5 oo ≤ 23) : oCv dX l yX0_letGo cX0_letGo 2 0 0 D cI cZ h a X [.int (iI oo)] (fun u => u = lg X oo) := by
  refine oCv_of (own := RX0) (by decide) rfl (Nat.le_of_ble_eq_true rfl) rfl ?_
  intro p e s m below meth c ls A E hW hl
  have hx := E.1
  have hb := E.2.1
  have hl : lv_has ls 2 [(0, .ref h), (1, .int (iI oo))] := hl
  refine lv_aload_n hx hb dX0_letGo_0 rfl (lv_at hl 0 rfl) ?_
  refine o_get E hW in_X0 rfl 3 (by decide) (v := .ref (a 3)) rfl q34 rfl dX0_letGo_1 ?_
  refine lv_iload_n hx hb dX0_letGo_4 rfl (lv_at hl 1 rfl) ?_
  refine lv_dup2_11 hx hb dX0_letGo_5 rfl rfl ?_
  refine o_ld E hW 3 ⟨by decide, rfl⟩ (by omega) (by omega) (by decide) (z := X 3 oo) rfl dX0_letGo_6 ?_
  refine o_iconst hx hb dX0_letGo_7 ?_
  refine o_isub hx hb dX0_letGo_8 ?_
  refine o_st E hW 3 ⟨by decide, rfl⟩ (by omega) (by omega) (by decide) dX0_letGo_9 (fun H locs hW => ?_)
  refine lv_aload_n hx hb dX0_letGo_10 rfl (lv_at hl 0 rfl) ?_
  refine o_get E hW in_X0 rfl 3 (by decide) (v := .ref (a 3)) rfl q34 rfl dX0_letGo_11 ?_
  refine lv_iload_n hx hb dX0_letGo_14 rfl (lv_at hl 1 rfl) ?_
  refine o_ld E hW 3 ⟨by decide, rfl⟩ (by omega) (by omega) (by decide) (z := (X 3 oo) - 1) (su_s) dX0_letGo_15 ?_
  refine o_ifle (tgt := 20) hx hb dX0_letGo_16 (by decide) (by omega) (fun c_16 => ?_) (fun c_16 => ?_)
  · refine lv_aload_n hx hb dX0_letGo_20 rfl (lv_at hl 0 rfl) ?_
    refine o_get E hW in_X0 rfl 4 (by decide) (v := .ref (a 4)) rfl q35 rfl dX0_letGo_21 ?_
    refine lv_iload_n hx hb dX0_letGo_24 rfl (lv_at hl 1 rfl) ?_
    refine o_ld E hW 4 ⟨by decide, rfl⟩ (by omega) (by omega) (by decide) (z := X 4 oo) (su_k (by decide)) dX0_letGo_25 ?_
    refine o_iconst hx hb dX0_letGo_26 ?_
    refine o_cne (tgt := 48) hx hb dX0_letGo_27 (by decide) (by omega) (by omega) (fun c_27 => ?_) (fun c_27 => ?_)
    · refine lv_aload_n hx hb dX0_letGo_48 rfl (lv_at hl 0 rfl) ?_
      refine o_get E hW in_X0 rfl 4 (by decide) (v := .ref (a 4)) rfl q35 rfl dX0_letGo_49 ?_
      refine lv_iload_n hx hb dX0_letGo_52 rfl (lv_at hl 1 rfl) ?_
      refine o_ld E hW 4 ⟨by decide, rfl⟩ (by omega) (by omega) (by decide) (z := X 4 oo) (su_k (by decide)) dX0_letGo_53 ?_
      refine o_iconst hx hb dX0_letGo_54 ?_
      refine o_cne (tgt := 73) hx hb dX0_letGo_55 (by decide) (by omega) (by omega) (fun c_55 => ?_) (fun c_55 => ?_)
      · refine lv_aload_n hx hb dX0_letGo_73 rfl (lv_at hl 0 rfl) ?_
        refine o_get E hW in_X0 rfl 12 (by decide) (v := .ref (a 12)) rfl q43 rfl dX0_letGo_74 ?_
        refine lv_aload_n hx hb dX0_letGo_77 rfl (lv_at hl 0 rfl) ?_
        refine o_get E hW in_X0 rfl 5 (by decide) (v := .ref (a 5)) rfl q36 rfl dX0_letGo_78 ?_
        refine lv_iload_n hx hb dX0_letGo_81 rfl (lv_at hl 1 rfl) ?_
        refine o_ld E hW 5 ⟨by decide, rfl⟩ (by omega) (by omega) (by decide) (z := X 5 oo) (su_k (by decide)) dX0_letGo_82 ?_
        refine o_iconst hx hb dX0_letGo_83 ?_
        refine o_zst E hW 12 ⟨by decide, rfl⟩ (by omega) (by omega) (by decide) (by decide) dX0_letGo_84 (fun H locs hW => ?_)
        exact o_vret E hW dX0_letGo_85 ((by rw [lg, if_neg (by omega), if_neg (by omega), if_neg (by omega)]))
      · refine lv_aload_n hx hb dX0_letGo_58 rfl (lv_at hl 0 rfl) ?_
        refine o_get E hW in_X0 rfl 11 (by decide) (v := .ref (a 11)) rfl q42 rfl dX0_letGo_59 ?_
        refine lv_aload_n hx hb dX0_letGo_62 rfl (lv_at hl 0 rfl) ?_
        refine o_get E hW in_X0 rfl 5 (by decide) (v := .ref (a 5)) rfl q36 rfl dX0_letGo_63 ?_
        refine lv_iload_n hx hb dX0_letGo_66 rfl (lv_at hl 1 rfl) ?_
        refine o_ld E hW 5 ⟨by decide, rfl⟩ (by omega) (by omega) (by decide) (z := X 5 oo) (su_k (by decide)) dX0_letGo_67 ?_
        refine o_iconst hx hb dX0_letGo_68 ?_
        refine o_zst E hW 11 ⟨by decide, rfl⟩ (by omega) (by omega) (by decide) (by decide) dX0_letGo_69 (fun H locs hW => ?_)
        refine lv_goto (tgt := 85) hx hb dX0_letGo_70 (by decide) ?_
        exact o_vret E hW dX0_letGo_85 ((by rw [lg, if_neg (by omega), if_neg (by omega), if_pos (by omega)]))
    · refine lv_aload_n hx hb dX0_letGo_30 rfl (lv_at hl 0 rfl) ?_
      refine o_get E hW in_X0 rfl 8 (by decide) (v := .ref (a 8)) rfl q39 rfl dX0_letGo_31 ?_
      refine lv_aload_n hx hb dX0_letGo_34 rfl (lv_at hl 0 rfl) ?_
      refine o_get E hW in_X0 rfl 5 (by decide) (v := .ref (a 5)) rfl q36 rfl dX0_letGo_35 ?_
      refine lv_iload_n hx hb dX0_letGo_38 rfl (lv_at hl 1 rfl) ?_
      refine o_ld E hW 5 ⟨by decide, rfl⟩ (by omega) (by omega) (by decide) (z := X 5 oo) (su_k (by decide)) dX0_letGo_39 ?_
      refine lv_dup2_11 hx hb dX0_letGo_40 rfl rfl ?_
      refine o_ld E hW 8 ⟨by decide, rfl⟩ (by omega) (by omega) (by decide) (z := X 8 (X 5 oo)) (su_k (by decide)) dX0_letGo_41 ?_
      refine o_iconst hx hb dX0_letGo_42 ?_
      refine o_isub hx hb dX0_letGo_43 ?_
      refine o_st E hW 8 ⟨by decide, rfl⟩ (by omega) (by omega) (by decide) dX0_letGo_44 (fun H locs hW => ?_)
      refine lv_goto (tgt := 85) hx hb dX0_letGo_45 (by decide) ?_
      exact o_vret E hW dX0_letGo_85 ((by rw [lg, if_neg (by omega), if_pos (by omega)]))
  · exact o_vret E hW dX0_letGo_19 ((by rw [lg, if_pos (by omega)]))
set_option maxHeartbeats 4000000 in
/-- writeFile -/
theorem xm_writeFile (l : Launch) (D : va_G) (cI cZ : ClassId) (h : Nat) (a : Nat → Nat) (X : oS) (oo : Int) (vv : Int) (ho : 0 ≤ oo ∧ oo < 24) (h5 : 0 ≤ X 5 oo ∧ X 5 oo ≤ 27) (h6 : 0 ≤ X 6 oo ∧ X 6 oo ≤ 8) (hB9 : rg X 9 28 0 8) : oC dX l yX0_writeFile cX0_writeFile 5 (some .int) 0 0 D cI cZ h a X [.int (iI oo), .int (iI vv)] (xq_writeFile X oo vv) := by
  refine oC_of (own := RX0) (by decide) rfl (Nat.le_of_ble_eq_true rfl) rfl ?_
  intro p e s m below meth c ls A E hW hl
  have hx := E.1
  have hb := E.2.1
  have hl : lv_has ls 5 [(0, .ref h), (1, .int (iI oo)), (2, .int (iI vv))] := hl
  refine lv_aload_n hx hb dX0_writeFile_0 rfl (lv_at hl 0 rfl) ?_
  refine o_get E hW in_X0 rfl 5 (by decide) (v := .ref (a 5)) rfl q36 rfl dX0_writeFile_1 ?_
  refine lv_iload_n hx hb dX0_writeFile_4 rfl (lv_at hl 1 rfl) ?_
  refine o_ld E hW 5 ⟨by decide, rfl⟩ (by omega) (by omega) (by decide) (z := X 5 oo) rfl dX0_writeFile_5 ?_
  refine lv_istore_n (lv' := [(3, .int (iI (X 5 oo))), (0, .ref h), (1, .int (iI oo)), (2, .int (iI vv))]) hx hb dX0_writeFile_6 rfl hl (by decide) rfl (fun ls hl => ?_)
  refine lv_aload_n hx hb dX0_writeFile_7 rfl (lv_at hl 1 rfl) ?_
  refine o_get E hW in_X0 rfl 6 (by decide) (v := .ref (a 6)) rfl q37 rfl dX0_writeFile_8 ?_
  refine lv_iload_n hx hb dX0_writeFile_11 rfl (lv_at hl 2 rfl) ?_
  refine o_ld E hW 6 ⟨by decide, rfl⟩ (by omega) (by omega) (by decide) (z := X 6 oo) rfl dX0_writeFile_12 ?_
  refine lv_istore (lv' := [(4, .int (iI (X 6 oo))), (3, .int (iI (X 5 oo))), (0, .ref h), (1, .int (iI oo)), (2, .int (iI vv))]) hx hb dX0_writeFile_13 hl (by decide) rfl (fun ls hl => ?_)
  refine lv_iload hx hb dX0_writeFile_15 (lv_at hl 0 rfl) ?_
  refine o_bipush hx hb dX0_writeFile_17 (by decide) ?_
  refine o_clt (tgt := 25) hx hb dX0_writeFile_19 (by decide) (by omega) (by omega) (fun c_19 => ?_) (fun c_19 => ?_)
  · refine lv_aload_n hx hb dX0_writeFile_25 rfl (lv_at hl 2 rfl) ?_
    refine o_get E hW in_X0 rfl 10 (by decide) (v := .ref (a 10)) rfl q41 rfl dX0_writeFile_26 ?_
    refine o_bipush hx hb dX0_writeFile_29 (by decide) ?_
    refine lv_iload_n hx hb dX0_writeFile_31 rfl (lv_at hl 1 rfl) ?_
    refine o_imul hx hb dX0_writeFile_32 ?_
    refine lv_iload hx hb dX0_writeFile_33 (lv_at hl 0 rfl) ?_
    refine o_iadd hx hb dX0_writeFile_35 ?_
    refine lv_iload_n hx hb dX0_writeFile_36 rfl (lv_at hl 4 rfl) ?_
    refine o_st E hW 10 ⟨by decide, rfl⟩ (by omega) (by omega) (by decide) dX0_writeFile_37 (fun H locs hW => ?_)
    refine lv_aload_n hx hb dX0_writeFile_38 rfl (lv_at hl 2 rfl) ?_
    refine o_get E hW in_X0 rfl 6 (by decide) (v := .ref (a 6)) rfl q37 rfl dX0_writeFile_39 ?_
    refine lv_iload_n hx hb dX0_writeFile_42 rfl (lv_at hl 3 rfl) ?_
    refine lv_iload hx hb dX0_writeFile_43 (lv_at hl 0 rfl) ?_
    refine o_iconst hx hb dX0_writeFile_45 ?_
    refine o_iadd hx hb dX0_writeFile_46 ?_
    refine o_st E hW 6 ⟨by decide, rfl⟩ (by omega) (by omega) (by decide) dX0_writeFile_47 (fun H locs hW => ?_)
    refine lv_iload hx hb dX0_writeFile_48 (lv_at hl 0 rfl) ?_
    refine lv_aload_n hx hb dX0_writeFile_50 rfl (lv_at hl 2 rfl) ?_
    refine o_get E hW in_X0 rfl 9 (by decide) (v := .ref (a 9)) rfl q40 rfl dX0_writeFile_51 ?_
    refine lv_iload_n hx hb dX0_writeFile_54 rfl (lv_at hl 1 rfl) ?_
    have h_55 := hB9 (X 5 oo) (by omega) (by omega)
    refine o_ld E hW 9 ⟨by decide, rfl⟩ (by omega) (by omega) (by decide) (z := X 9 (X 5 oo)) ((su_k (by decide)).trans (su_k (by decide))) dX0_writeFile_55 ?_
    refine o_cne (tgt := 69) hx hb dX0_writeFile_56 (by decide) (by omega) (by omega) (fun c_56 => ?_) (fun c_56 => ?_)
    · refine o_iconst hx hb dX0_writeFile_69 ?_
      exact o_ret (z := 0) E hW dX0_writeFile_70 (Or.inr (Or.inr ⟨by omega, by omega, rfl, rfl⟩))
    · refine lv_aload_n hx hb dX0_writeFile_59 rfl (lv_at hl 2 rfl) ?_
      refine o_get E hW in_X0 rfl 9 (by decide) (v := .ref (a 9)) rfl q40 rfl dX0_writeFile_60 ?_
      refine lv_iload_n hx hb dX0_writeFile_63 rfl (lv_at hl 1 rfl) ?_
      refine lv_iload hx hb dX0_writeFile_64 (lv_at hl 0 rfl) ?_
      refine o_iconst hx hb dX0_writeFile_66 ?_
      refine o_iadd hx hb dX0_writeFile_67 ?_
      refine o_st E hW 9 ⟨by decide, rfl⟩ (by omega) (by omega) (by decide) dX0_writeFile_68 (fun H locs hW => ?_)
      refine o_iconst hx hb dX0_writeFile_69 ?_
      exact o_ret (z := 0) E hW dX0_writeFile_70 (Or.inr (Or.inl ⟨by omega, by omega, rfl, rfl⟩))
  · refine o_bipush hx hb dX0_writeFile_22 (by decide) ?_
    exact o_ret (z := (-2)) E hW dX0_writeFile_24 (Or.inl ⟨by omega, rfl, rfl⟩)
set_option maxHeartbeats 4000000 in
/-- readFile -/
theorem xm_readFile (l : Launch) (D : va_G) (cI cZ : ClassId) (h : Nat) (a : Nat → Nat) (X : oS) (oo : Int) (ho : 0 ≤ oo ∧ oo < 24) (h5 : 0 ≤ X 5 oo ∧ X 5 oo ≤ 27) (h6 : 0 ≤ X 6 oo ∧ X 6 oo ≤ 8) (hB9 : rg X 9 28 0 8) : oC dX l yX0_readFile cX0_readFile 4 (some .int) 0 0 D cI cZ h a X [.int (iI oo)] (xq_readFile X oo) := by
  refine oC_of (own := RX0) (by decide) rfl (Nat.le_of_ble_eq_true rfl) rfl ?_
  intro p e s m below meth c ls A E hW hl
  have hx := E.1
  have hb := E.2.1
  have hl : lv_has ls 4 [(0, .ref h), (1, .int (iI oo))] := hl
  refine lv_aload_n hx hb dX0_readFile_0 rfl (lv_at hl 0 rfl) ?_
  refine o_get E hW in_X0 rfl 5 (by decide) (v := .ref (a 5)) rfl q36 rfl dX0_readFile_1 ?_
  refine lv_iload_n hx hb dX0_readFile_4 rfl (lv_at hl 1 rfl) ?_
  refine o_ld E hW 5 ⟨by decide, rfl⟩ (by omega) (by omega) (by decide) (z := X 5 oo) rfl dX0_readFile_5 ?_
  refine lv_istore_n (lv' := [(2, .int (iI (X 5 oo))), (0, .ref h), (1, .int (iI oo))]) hx hb dX0_readFile_6 rfl hl (by decide) rfl (fun ls hl => ?_)
  refine lv_aload_n hx hb dX0_readFile_7 rfl (lv_at hl 1 rfl) ?_
  refine o_get E hW in_X0 rfl 6 (by decide) (v := .ref (a 6)) rfl q37 rfl dX0_readFile_8 ?_
  refine lv_iload_n hx hb dX0_readFile_11 rfl (lv_at hl 2 rfl) ?_
  refine o_ld E hW 6 ⟨by decide, rfl⟩ (by omega) (by omega) (by decide) (z := X 6 oo) rfl dX0_readFile_12 ?_
  refine lv_istore_n (lv' := [(3, .int (iI (X 6 oo))), (2, .int (iI (X 5 oo))), (0, .ref h), (1, .int (iI oo))]) hx hb dX0_readFile_13 rfl hl (by decide) rfl (fun ls hl => ?_)
  refine lv_iload_n hx hb dX0_readFile_14 rfl (lv_at hl 0 rfl) ?_
  refine lv_aload_n hx hb dX0_readFile_15 rfl (lv_at hl 2 rfl) ?_
  refine o_get E hW in_X0 rfl 9 (by decide) (v := .ref (a 9)) rfl q40 rfl dX0_readFile_16 ?_
  refine lv_iload_n hx hb dX0_readFile_19 rfl (lv_at hl 1 rfl) ?_
  have h_20 := hB9 (X 5 oo) (by omega) (by omega)
  refine o_ld E hW 9 ⟨by decide, rfl⟩ (by omega) (by omega) (by decide) (z := X 9 (X 5 oo)) rfl dX0_readFile_20 ?_
  refine o_clt (tgt := 27) hx hb dX0_readFile_21 (by decide) (by omega) (by omega) (fun c_21 => ?_) (fun c_21 => ?_)
  · refine lv_aload_n hx hb dX0_readFile_27 rfl (lv_at hl 2 rfl) ?_
    refine o_get E hW in_X0 rfl 6 (by decide) (v := .ref (a 6)) rfl q37 rfl dX0_readFile_28 ?_
    refine lv_iload_n hx hb dX0_readFile_31 rfl (lv_at hl 3 rfl) ?_
    refine lv_iload_n hx hb dX0_readFile_32 rfl (lv_at hl 0 rfl) ?_
    refine o_iconst hx hb dX0_readFile_33 ?_
    refine o_iadd hx hb dX0_readFile_34 ?_
    refine o_st E hW 6 ⟨by decide, rfl⟩ (by omega) (by omega) (by decide) dX0_readFile_35 (fun H locs hW => ?_)
    refine lv_aload_n hx hb dX0_readFile_36 rfl (lv_at hl 2 rfl) ?_
    refine o_get E hW in_X0 rfl 10 (by decide) (v := .ref (a 10)) rfl q41 rfl dX0_readFile_37 ?_
    refine o_bipush hx hb dX0_readFile_40 (by decide) ?_
    refine lv_iload_n hx hb dX0_readFile_42 rfl (lv_at hl 1 rfl) ?_
    refine o_imul hx hb dX0_readFile_43 ?_
    refine lv_iload_n hx hb dX0_readFile_44 rfl (lv_at hl 0 rfl) ?_
    refine o_iadd hx hb dX0_readFile_45 ?_
    refine o_ld E hW 10 ⟨by decide, rfl⟩ (by omega) (by omega) (by decide) (z := X 10 ((8 * (X 5 oo)) + (X 6 oo))) (su_k (by decide)) dX0_readFile_46 ?_
    exact o_ret (z := (X 10 ((8 * (X 5 oo)) + (X 6 oo)))) E hW dX0_readFile_47 (Or.inr ⟨by omega, rfl, rfl⟩)
  · refine o_bipush hx hb dX0_readFile_24 (by decide) ?_
    exact o_ret (z := (-5)) E hW dX0_readFile_26 (Or.inl ⟨by omega, rfl, rfl⟩)
set_option maxHeartbeats 4000000 in
/-- writePipe -/
theorem xm_writePipe (l : Launch) (D : va_G) (cI cZ : ClassId) (h : Nat) (a : Nat → Nat) (X : oS) (tp : Int) (vv : Int) (ho : 0 ≤ tp ∧ tp < 24) (hB11 : rg X 11 24 0 1) (hB13 : rg X 13 24 0 5) (hB14 : rg X 14 24 0 6) : oC dX l yX0_writePipe cX0_writePipe 4 (some .int) 0 0 D cI cZ h a X [.int (iI tp), .int (iI vv)] (xq_writePipe X tp vv) := by
  refine oC_of (own := RX0) (by decide) rfl (Nat.le_of_ble_eq_true rfl) rfl ?_
  intro p e s m below meth c ls A E hW hl
  have hx := E.1
  have hb := E.2.1
  have hl : lv_has ls 4 [(0, .ref h), (1, .int (iI tp)), (2, .int (iI vv))] := hl
  refine lv_aload_n hx hb dX0_writePipe_0 rfl (lv_at hl 0 rfl) ?_
  refine o_get E hW in_X0 rfl 11 (by decide) (v := .ref (a 11)) rfl q42 rfl dX0_writePipe_1 ?_
  refine lv_iload_n hx hb dX0_writePipe_4 rfl (lv_at hl 1 rfl) ?_
  have h_5 := hB11 tp (by omega) (by omega)
  refine o_zld E hW 11 ⟨by decide, rfl⟩ (by omega) (by omega) (by decide) (z := X 11 tp) rfl dX0_writePipe_5 ?_
  refine o_ifne (tgt := 12) hx hb dX0_writePipe_6 (by decide) (by omega) (fun c_6 => ?_) (fun c_6 => ?_)
  · refine lv_aload_n hx hb dX0_writePipe_12 rfl (lv_at hl 0 rfl) ?_
    refine o_get E hW in_X0 rfl 14 (by decide) (v := .ref (a 14)) rfl q45 rfl dX0_writePipe_13 ?_
    refine lv_iload_n hx hb dX0_writePipe_16 rfl (lv_at hl 1 rfl) ?_
    have h_17 := hB14 tp (by omega) (by omega)
    refine o_ld E hW 14 ⟨by decide, rfl⟩ (by omega) (by omega) (by decide) (z := X 14 tp) rfl dX0_writePipe_17 ?_
    refine o_bipush hx hb dX0_writePipe_18 (by decide) ?_
    refine o_cne (tgt := 26) hx hb dX0_writePipe_20 (by decide) (by omega) (by omega) (fun c_20 => ?_) (fun c_20 => ?_)
    · refine lv_aload_n hx hb dX0_writePipe_26 rfl (lv_at hl 0 rfl) ?_
      refine o_get E hW in_X0 rfl 13 (by decide) (v := .ref (a 13)) rfl q44 rfl dX0_writePipe_27 ?_
      refine lv_iload_n hx hb dX0_writePipe_30 rfl (lv_at hl 1 rfl) ?_
      have h_31 := hB13 tp (by omega) (by omega)
      refine o_ld E hW 13 ⟨by decide, rfl⟩ (by omega) (by omega) (by decide) (z := X 13 tp) rfl dX0_writePipe_31 ?_
      refine lv_aload_n hx hb dX0_writePipe_32 rfl (lv_at hl 0 rfl) ?_
      refine o_get E hW in_X0 rfl 14 (by decide) (v := .ref (a 14)) rfl q45 rfl dX0_writePipe_33 ?_
      refine lv_iload_n hx hb dX0_writePipe_36 rfl (lv_at hl 1 rfl) ?_
      have h_37 := hB14 tp (by omega) (by omega)
      refine o_ld E hW 14 ⟨by decide, rfl⟩ (by omega) (by omega) (by decide) (z := X 14 tp) rfl dX0_writePipe_37 ?_
      refine o_iadd hx hb dX0_writePipe_38 ?_
      refine lv_istore_n (lv' := [(3, .int (iI ((X 13 tp) + (X 14 tp)))), (0, .ref h), (1, .int (iI tp)), (2, .int (iI vv))]) hx hb dX0_writePipe_39 rfl hl (by decide) rfl (fun ls hl => ?_)
      refine lv_aload_n hx hb dX0_writePipe_40 rfl (lv_at hl 1 rfl) ?_
      refine o_get E hW in_X0 rfl 15 (by decide) (v := .ref (a 15)) rfl q46 rfl dX0_writePipe_41 ?_
      refine o_bipush hx hb dX0_writePipe_44 (by decide) ?_
      refine lv_iload_n hx hb dX0_writePipe_46 rfl (lv_at hl 2 rfl) ?_
      refine o_imul hx hb dX0_writePipe_47 ?_
      refine lv_iload_n hx hb dX0_writePipe_48 rfl (lv_at hl 0 rfl) ?_
      refine o_bipush hx hb dX0_writePipe_49 (by decide) ?_
      refine o_clt (tgt := 61) hx hb dX0_writePipe_51 (by decide) (by omega) (by omega) (fun c_51 => ?_) (fun c_51 => ?_)
      · refine lv_iload_n hx hb dX0_writePipe_61 rfl (lv_at hl 0 rfl) ?_
        refine o_iadd hx hb dX0_writePipe_62 ?_
        refine lv_iload_n hx hb dX0_writePipe_63 rfl (lv_at hl 3 rfl) ?_
        refine o_st E hW 15 ⟨by decide, rfl⟩ (by omega) (by omega) (by decide) dX0_writePipe_64 (fun H locs hW => ?_)
        refine lv_aload_n hx hb dX0_writePipe_65 rfl (lv_at hl 1 rfl) ?_
        refine o_get E hW in_X0 rfl 14 (by decide) (v := .ref (a 14)) rfl q45 rfl dX0_writePipe_66 ?_
        refine lv_iload_n hx hb dX0_writePipe_69 rfl (lv_at hl 2 rfl) ?_
        refine lv_dup2_11 hx hb dX0_writePipe_70 rfl rfl ?_
        have h_71 := hB14 tp (by omega) (by omega)
        refine o_ld E hW 14 ⟨by decide, rfl⟩ (by omega) (by omega) (by decide) (z := X 14 tp) (su_k (by decide)) dX0_writePipe_71 ?_
        refine o_iconst hx hb dX0_writePipe_72 ?_
        refine o_iadd hx hb dX0_writePipe_73 ?_
        refine o_st E hW 14 ⟨by decide, rfl⟩ (by omega) (by omega) (by decide) dX0_writePipe_74 (fun H locs hW => ?_)
        refine o_iconst hx hb dX0_writePipe_75 ?_
        exact o_ret (z := 0) E hW dX0_writePipe_76 (Or.inr (Or.inr (Or.inl ⟨by omega, by omega, by omega, rfl, rfl⟩)))
      · refine lv_iload_n hx hb dX0_writePipe_54 rfl (lv_at hl 0 rfl) ?_
        refine o_bipush hx hb dX0_writePipe_55 (by decide) ?_
        refine o_isub hx hb dX0_writePipe_57 ?_
        refine lv_goto (tgt := 62) hx hb dX0_writePipe_58 (by decide) ?_
        refine o_iadd hx hb dX0_writePipe_62 ?_
        refine lv_iload_n hx hb dX0_writePipe_63 rfl (lv_at hl 3 rfl) ?_
        refine o_st E hW 15 ⟨by decide, rfl⟩ (by omega) (by omega) (by decide) dX0_writePipe_64 (fun H locs hW => ?_)
        refine lv_aload_n hx hb dX0_writePipe_65 rfl (lv_at hl 1 rfl) ?_
        refine o_get E hW in_X0 rfl 14 (by decide) (v := .ref (a 14)) rfl q45 rfl dX0_writePipe_66 ?_
        refine lv_iload_n hx hb dX0_writePipe_69 rfl (lv_at hl 2 rfl) ?_
        refine lv_dup2_11 hx hb dX0_writePipe_70 rfl rfl ?_
        have h_71 := hB14 tp (by omega) (by omega)
        refine o_ld E hW 14 ⟨by decide, rfl⟩ (by omega) (by omega) (by decide) (z := X 14 tp) (su_k (by decide)) dX0_writePipe_71 ?_
        refine o_iconst hx hb dX0_writePipe_72 ?_
        refine o_iadd hx hb dX0_writePipe_73 ?_
        refine o_st E hW 14 ⟨by decide, rfl⟩ (by omega) (by omega) (by decide) dX0_writePipe_74 (fun H locs hW => ?_)
        refine o_iconst hx hb dX0_writePipe_75 ?_
        exact o_ret (z := 0) E hW dX0_writePipe_76 (Or.inr (Or.inr (Or.inr ⟨by omega, by omega, by omega, rfl, rfl⟩)))
    · refine o_bipush hx hb dX0_writePipe_23 (by decide) ?_
      exact o_ret (z := (-4)) E hW dX0_writePipe_25 (Or.inr (Or.inl ⟨by omega, by omega, rfl, rfl⟩))
  · refine o_bipush hx hb dX0_writePipe_9 (by decide) ?_
    exact o_ret (z := (-3)) E hW dX0_writePipe_11 (Or.inl ⟨by omega, rfl, rfl⟩)
set_option maxHeartbeats 4000000 in
/-- readPipe -/
theorem xm_readPipe (l : Launch) (D : va_G) (cI cZ : ClassId) (h : Nat) (a : Nat → Nat) (X : oS) (tp : Int) (ho : 0 ≤ tp ∧ tp < 24) (hB12 : rg X 12 24 0 1) (hB13 : rg X 13 24 0 5) (hB14 : rg X 14 24 0 6) : oC dX l yX0_readPipe cX0_readPipe 3 (some .int) 0 0 D cI cZ h a X [.int (iI tp)] (xq_readPipe X tp) := by
  refine oC_of (own := RX0) (by decide) rfl (Nat.le_of_ble_eq_true rfl) rfl ?_
  intro p e s m below meth c ls A E hW hl
  have hx := E.1
  have hb := E.2.1
  have hl : lv_has ls 3 [(0, .ref h), (1, .int (iI tp))] := hl
  refine lv_aload_n hx hb dX0_readPipe_0 rfl (lv_at hl 0 rfl) ?_
  refine o_get E hW in_X0 rfl 14 (by decide) (v := .ref (a 14)) rfl q45 rfl dX0_readPipe_1 ?_
  refine lv_iload_n hx hb dX0_readPipe_4 rfl (lv_at hl 1 rfl) ?_
  have h_5 := hB14 tp (by omega) (by omega)
  refine o_ld E hW 14 ⟨by decide, rfl⟩ (by omega) (by omega) (by decide) (z := X 14 tp) rfl dX0_readPipe_5 ?_
  refine o_ifne (tgt := 26) hx hb dX0_readPipe_6 (by decide) (by omega) (fun c_6 => ?_) (fun c_6 => ?_)
  · refine lv_aload_n hx hb dX0_readPipe_26 rfl (lv_at hl 0 rfl) ?_
    refine o_get E hW in_X0 rfl 15 (by decide) (v := .ref (a 15)) rfl q46 rfl dX0_readPipe_27 ?_
    refine o_bipush hx hb dX0_readPipe_30 (by decide) ?_
    refine lv_iload_n hx hb dX0_readPipe_32 rfl (lv_at hl 1 rfl) ?_
    refine o_imul hx hb dX0_readPipe_33 ?_
    refine lv_aload_n hx hb dX0_readPipe_34 rfl (lv_at hl 0 rfl) ?_
    refine o_get E hW in_X0 rfl 13 (by decide) (v := .ref (a 13)) rfl q44 rfl dX0_readPipe_35 ?_
    refine lv_iload_n hx hb dX0_readPipe_38 rfl (lv_at hl 1 rfl) ?_
    have h_39 := hB13 tp (by omega) (by omega)
    refine o_ld E hW 13 ⟨by decide, rfl⟩ (by omega) (by omega) (by decide) (z := X 13 tp) rfl dX0_readPipe_39 ?_
    refine o_iadd hx hb dX0_readPipe_40 ?_
    refine o_ld E hW 15 ⟨by decide, rfl⟩ (by omega) (by omega) (by decide) (z := X 15 ((6 * tp) + (X 13 tp))) rfl dX0_readPipe_41 ?_
    refine lv_istore_n (lv' := [(2, .int (iI (X 15 ((6 * tp) + (X 13 tp))))), (0, .ref h), (1, .int (iI tp))]) hx hb dX0_readPipe_42 rfl hl (by decide) rfl (fun ls hl => ?_)
    refine lv_aload_n hx hb dX0_readPipe_43 rfl (lv_at hl 1 rfl) ?_
    refine o_get E hW in_X0 rfl 13 (by decide) (v := .ref (a 13)) rfl q44 rfl dX0_readPipe_44 ?_
    refine lv_iload_n hx hb dX0_readPipe_47 rfl (lv_at hl 2 rfl) ?_
    refine lv_aload_n hx hb dX0_readPipe_48 rfl (lv_at hl 1 rfl) ?_
    refine o_get E hW in_X0 rfl 13 (by decide) (v := .ref (a 13)) rfl q44 rfl dX0_readPipe_49 ?_
    refine lv_iload_n hx hb dX0_readPipe_52 rfl (lv_at hl 2 rfl) ?_
    have h_53 := hB13 tp (by omega) (by omega)
    refine o_ld E hW 13 ⟨by decide, rfl⟩ (by omega) (by omega) (by decide) (z := X 13 tp) rfl dX0_readPipe_53 ?_
    refine o_iconst hx hb dX0_readPipe_54 ?_
    refine o_cne (tgt := 62) hx hb dX0_readPipe_55 (by decide) (by omega) (by omega) (fun c_55 => ?_) (fun c_55 => ?_)
    · refine lv_aload_n hx hb dX0_readPipe_62 rfl (lv_at hl 1 rfl) ?_
      refine o_get E hW in_X0 rfl 13 (by decide) (v := .ref (a 13)) rfl q44 rfl dX0_readPipe_63 ?_
      refine lv_iload_n hx hb dX0_readPipe_66 rfl (lv_at hl 2 rfl) ?_
      have h_67 := hB13 tp (by omega) (by omega)
      refine o_ld E hW 13 ⟨by decide, rfl⟩ (by omega) (by omega) (by decide) (z := X 13 tp) rfl dX0_readPipe_67 ?_
      refine o_iconst hx hb dX0_readPipe_68 ?_
      refine o_iadd hx hb dX0_readPipe_69 ?_
      refine o_st E hW 13 ⟨by decide, rfl⟩ (by omega) (by omega) (by decide) dX0_readPipe_70 (fun H locs hW => ?_)
      refine lv_aload_n hx hb dX0_readPipe_71 rfl (lv_at hl 1 rfl) ?_
      refine o_get E hW in_X0 rfl 14 (by decide) (v := .ref (a 14)) rfl q45 rfl dX0_readPipe_72 ?_
      refine lv_iload_n hx hb dX0_readPipe_75 rfl (lv_at hl 2 rfl) ?_
      refine lv_dup2_11 hx hb dX0_readPipe_76 rfl rfl ?_
      have h_77 := hB14 tp (by omega) (by omega)
      refine o_ld E hW 14 ⟨by decide, rfl⟩ (by omega) (by omega) (by decide) (z := X 14 tp) (su_k (by decide)) dX0_readPipe_77 ?_
      refine o_iconst hx hb dX0_readPipe_78 ?_
      refine o_isub hx hb dX0_readPipe_79 ?_
      refine o_st E hW 14 ⟨by decide, rfl⟩ (by omega) (by omega) (by decide) dX0_readPipe_80 (fun H locs hW => ?_)
      refine lv_iload_n hx hb dX0_readPipe_81 rfl (lv_at hl 0 rfl) ?_
      exact o_ret (z := (X 15 ((6 * tp) + (X 13 tp)))) E hW dX0_readPipe_82 (Or.inr (Or.inr (Or.inr ⟨by omega, by omega, rfl, rfl⟩)))
    · refine o_iconst hx hb dX0_readPipe_58 ?_
      refine lv_goto (tgt := 70) hx hb dX0_readPipe_59 (by decide) ?_
      refine o_st E hW 13 ⟨by decide, rfl⟩ (by omega) (by omega) (by decide) dX0_readPipe_70 (fun H locs hW => ?_)
      refine lv_aload_n hx hb dX0_readPipe_71 rfl (lv_at hl 1 rfl) ?_
      refine o_get E hW in_X0 rfl 14 (by decide) (v := .ref (a 14)) rfl q45 rfl dX0_readPipe_72 ?_
      refine lv_iload_n hx hb dX0_readPipe_75 rfl (lv_at hl 2 rfl) ?_
      refine lv_dup2_11 hx hb dX0_readPipe_76 rfl rfl ?_
      have h_77 := hB14 tp (by omega) (by omega)
      refine o_ld E hW 14 ⟨by decide, rfl⟩ (by omega) (by omega) (by decide) (z := X 14 tp) (su_k (by decide)) dX0_readPipe_77 ?_
      refine o_iconst hx hb dX0_readPipe_78 ?_
      refine o_isub hx hb dX0_readPipe_79 ?_
      refine o_st E hW 14 ⟨by decide, rfl⟩ (by omega) (by omega) (by decide) dX0_readPipe_80 (fun H locs hW => ?_)
      refine lv_iload_n hx hb dX0_readPipe_81 rfl (lv_at hl 0 rfl) ?_
      exact o_ret (z := (X 15 ((6 * tp) + (X 13 tp)))) E hW dX0_readPipe_82 (Or.inr (Or.inr (Or.inl ⟨by omega, by omega, rfl, rfl⟩)))
  · refine lv_aload_n hx hb dX0_readPipe_9 rfl (lv_at hl 0 rfl) ?_
    refine o_get E hW in_X0 rfl 12 (by decide) (v := .ref (a 12)) rfl q43 rfl dX0_readPipe_10 ?_
    refine lv_iload_n hx hb dX0_readPipe_13 rfl (lv_at hl 1 rfl) ?_
    have h_14 := hB12 tp (by omega) (by omega)
    refine o_zld E hW 12 ⟨by decide, rfl⟩ (by omega) (by omega) (by decide) (z := X 12 tp) rfl dX0_readPipe_14 ?_
    refine o_ifeq (tgt := 23) hx hb dX0_readPipe_15 (by decide) (by omega) (fun c_15 => ?_) (fun c_15 => ?_)
    · refine o_bipush hx hb dX0_readPipe_23 (by decide) ?_
      exact o_ret (z := (-5)) E hW dX0_readPipe_25 (Or.inr (Or.inl ⟨by omega, by omega, rfl, rfl⟩))
    · refine o_bipush hx hb dX0_readPipe_18 (by decide) ?_
      refine lv_goto (tgt := 25) hx hb dX0_readPipe_20 (by decide) ?_
      exact o_ret (z := (-4)) E hW dX0_readPipe_25 (Or.inl ⟨by omega, by omega, rfl, rfl⟩)
end
section
/-! DescriptorTable: the methods that the law calls -/
set_option maxRecDepth 100000
/-- descriptor dd of process pp leads to an opening -/
abbrev hasD (X : oS) (pp dd : Int) : Prop := al X pp ∧ 0 ≤ dd ∧ dd ≤ 5 ∧ 0 ≤ X 2 (6 * pp + dd)
/-- z: the least free descriptor of pp from fm on -/
abbrev lfd (X : oS) (pp fm z : Int) : Prop := fm ≤ z ∧ z < 6 ∧ X 2 (6 * pp + z) < 0 ∧ ∀ d, fm ≤ d → d < z → 0 ≤ X 2 (6 * pp + d)
abbrev nfd (X : oS) (pp fm : Int) : Prop := ∀ d, fm ≤ d → d < 6 → 0 ≤ X 2 (6 * pp + d)
abbrev nop (X : oS) (z so tg : Int) : oS := su (su (su (su X 3 z 1) 4 z so) 5 z tg) 6 z 0
abbrev xq_open (X : oS) (pp nn : Int) : Int → oS → Prop := fun z u =>
  (¬ (al X pp ∧ 0 ≤ nn ∧ nn ≤ 3) ∧ z = -1 ∧ X = u) ∨
  ((al X pp ∧ 0 ≤ nn ∧ nn ≤ 3) ∧ nfd X pp 0 ∧ z = -2 ∧ X = u) ∨
  ((al X pp ∧ 0 ≤ nn ∧ nn ≤ 3) ∧ lfd X pp 0 z ∧ X 7 nn < 0 ∧ ∃ f o, lz (fun f => X 8 f = 0) 28 f ∧ lz (fun o => X 3 o = 0) 24 o ∧ u = su (nop (su (su (su (su X 7 nn f) 8 f 1) 9 f 0) 8 f (1 + 1)) o 1 f) 2 (6 * pp + z) o) ∨
  ((al X pp ∧ 0 ≤ nn ∧ nn ≤ 3) ∧ lfd X pp 0 z ∧ 0 ≤ X 7 nn ∧ ∃ o, lz (fun o => X 3 o = 0) 24 o ∧ u = su (nop (su X 8 (X 7 nn) (X 8 (X 7 nn) + 1)) o 1 (X 7 nn)) 2 (6 * pp + z) o)
abbrev xpp (X : oS) (q : Int) : oS := su (su (su (su X 11 q 1) 12 q 1) 13 q 0) 14 q 0
abbrev xq_pipe (X : oS) (pp : Int) : Int → oS → Prop := fun z u =>
  (¬ al X pp ∧ z = -1 ∧ X = u) ∨
  (al X pp ∧ nfd X pp 0 ∧ z = -2 ∧ X = u) ∨
  (al X pp ∧ (∃ r, lfd X pp 0 r ∧ nfd X pp (r + 1)) ∧ z = -2 ∧ X = u) ∨
  (al X pp ∧ ∃ r w q o1 o2, lfd X pp 0 r ∧ lfd X pp (r + 1) w ∧ lz (fun f => X 11 f = 0 ∧ X 12 f = 0) 24 q ∧ lz (fun o => X 3 o = 0) 24 o1 ∧ lz (fun o => su X 3 o1 1 3 o = 0) 24 o2 ∧ z = 8 * r + w ∧
    u = su (nop (su (nop (xpp X q) o1 2 q) 2 (6 * pp + r) o1) o2 3 q) 2 (6 * pp + w) o2)
abbrev xq_dup (X : oS) (pp dd : Int) : Int → oS → Prop := fun z u =>
  (¬ hasD X pp dd ∧ z = -1 ∧ X = u) ∨ (hasD X pp dd ∧ nfd X pp 0 ∧ z = -2 ∧ X = u) ∨
  (hasD X pp dd ∧ lfd X pp 0 z ∧ u = su (su X 2 (6 * pp + z) (X 2 (6 * pp + dd))) 3 (X 2 (6 * pp + dd)) (X 3 (X 2 (6 * pp + dd)) + 1))
abbrev xq_close (X : oS) (pp dd : Int) : Int → oS → Prop := fun z u =>
  (¬ hasD X pp dd ∧ z = -1 ∧ X = u) ∨ (hasD X pp dd ∧ z = 0 ∧ u = lg (su X 2 (6 * pp + dd) (-1)) (X 2 (6 * pp + dd)))
abbrev xq_write (X : oS) (pp dd vv : Int) : Int → oS → Prop := fun z u =>
  (¬ (hasD X pp dd ∧ X 4 (X 2 (6 * pp + dd)) ≠ 2) ∧ z = -1 ∧ X = u) ∨
  (hasD X pp dd ∧ X 4 (X 2 (6 * pp + dd)) = 1 ∧ xq_writeFile X (X 2 (6 * pp + dd)) (iI vv &&& iI 255).toInt z u) ∨
  (hasD X pp dd ∧ X 4 (X 2 (6 * pp + dd)) ≠ 1 ∧ X 4 (X 2 (6 * pp + dd)) ≠ 2 ∧ xq_writePipe X (X 5 (X 2 (6 * pp + dd))) (iI vv &&& iI 255).toInt z u)
abbrev xq_read (X : oS) (pp dd : Int) : Int → oS → Prop := fun z u =>
  (¬ (hasD X pp dd ∧ X 4 (X 2 (6 * pp + dd)) ≠ 3) ∧ z = -1 ∧ X = u) ∨
  (hasD X pp dd ∧ X 4 (X 2 (6 * pp + dd)) = 1 ∧ xq_readFile X (X 2 (6 * pp + dd)) z u) ∨
  (hasD X pp dd ∧ X 4 (X 2 (6 * pp + dd)) ≠ 1 ∧ X 4 (X 2 (6 * pp + dd)) ≠ 3 ∧ xq_readPipe X (X 5 (X 2 (6 * pp + dd))) z u)
abbrev xq_seek (X : oS) (pp dd ff : Int) : Int → oS → Prop := fun z u =>
  (¬ (hasD X pp dd ∧ X 4 (X 2 (6 * pp + dd)) = 1 ∧ 0 ≤ ff ∧ ff ≤ X 9 (X 5 (X 2 (6 * pp + dd)))) ∧ z = -1 ∧ X = u) ∨
  ((hasD X pp dd ∧ X 4 (X 2 (6 * pp + dd)) = 1 ∧ 0 ≤ ff ∧ ff ≤ X 9 (X 5 (X 2 (6 * pp + dd)))) ∧ z = 0 ∧ u = su X 6 (X 2 (6 * pp + dd)) ff)
abbrev xq_link (X : oS) (n1 n2 : Int) : Int → oS → Prop := fun z u =>
  (¬ ((0 ≤ n1 ∧ n1 ≤ 3) ∧ (0 ≤ n2 ∧ n2 ≤ 3) ∧ 0 ≤ X 7 n1 ∧ X 7 n2 < 0) ∧ z = -1 ∧ X = u) ∨
  (((0 ≤ n1 ∧ n1 ≤ 3) ∧ (0 ≤ n2 ∧ n2 ≤ 3) ∧ 0 ≤ X 7 n1 ∧ X 7 n2 < 0) ∧ z = 0 ∧ u = su (su X 7 n2 (X 7 n1)) 8 (X 7 n1) (X 8 (X 7 n1) + 1))
abbrev xq_unlink (X : oS) (nn : Int) : Int → oS → Prop := fun z u =>
  (¬ ((0 ≤ nn ∧ nn ≤ 3) ∧ 0 ≤ X 7 nn) ∧ z = -1 ∧ X = u) ∨ (((0 ≤ nn ∧ nn ≤ 3) ∧ 0 ≤ X 7 nn) ∧ z = 0 ∧ u = su (su X 8 (X 7 nn) (X 8 (X 7 nn) - 1)) 7 nn (-1))
set_option maxHeartbeats 4000000 in
/-- open -/
theorem xm_open (l : Launch) (D : va_G) (cI cZ : ClassId) (h : Nat) (a : Nat → Nat) (X : oS) (pp : Int) (nn : Int) (hp : ii_r pp) (hn : ii_r nn) (hB1 : rg X 1 4 0 1) (hB2 : rg X 2 24 (-1) 23) (hB3 : rg X 3 24 0 24) (hB7 : rg X 7 4 (-1) 27) (hB8 : rg X 8 28 0 30) : oC dX l yX0_open cX0_open 5 (some .int) 1 24 D cI cZ h a X [.int (iI pp), .int (iI nn)] (xq_open X pp nn) := by
  refine oC_of (own := RX0) (by decide) rfl (Nat.le_of_ble_eq_true rfl) rfl ?_
  intro p e s m below meth c ls A E hW hl
  have hx := E.1
  have hb := E.2.1
  have hl : lv_has ls 5 [(0, .ref h), (1, .int (iI pp)), (2, .int (iI nn))] := hl
  refine lv_aload_n hx hb dX0_open_0 rfl (lv_at hl 0 rfl) ?_
  refine lv_iload_n hx hb dX0_open_1 rfl (lv_at hl 1 rfl) ?_
  refine o_call (nA := 1) (As := [.int (iI pp)]) (rest := []) E hW hl (xm_isAlive l D cI cZ h a X pp hp hB1) (lw_V q86 q88 qs0 q21 q89) rfl (by decide +kernel) rfl ⟨Nat.le_of_ble_eq_true rfl, Nat.le_of_ble_eq_true rfl⟩ rfl (Nat.le_of_ble_eq_true rfl) ⟨Nat.le_of_ble_eq_true rfl, Nat.le_of_ble_eq_true rfl⟩ dX0_open_2 (fun z_2 X_2 H locs hq hW => ?_)
  rcases hq with ⟨q_2, rfl, rfl⟩ | ⟨q_2, rfl, rfl⟩
  · refine o_ifeq (tgt := 15) hx hb dX0_open_5 (by decide) (by omega) (fun q => absurd q (by decide)) (fun _ => ?_)
    refine lv_iload_n hx hb dX0_open_8 rfl (lv_at hl 2 rfl) ?_
    refine o_calls (nA := 1) (As := [.int (iI nn)]) (rest := []) E hW hl (xm_isName l nn hn) (lw_S q90 q91 q21 q92) (by decide +kernel) rfl ⟨Nat.le_of_ble_eq_true rfl, Nat.le_of_ble_eq_true rfl⟩ rfl (Nat.le_of_ble_eq_true rfl) ⟨Nat.le_of_ble_eq_true rfl, Nat.le_of_ble_eq_true rfl⟩ dX0_open_9 (fun z_9 H locs hq hW => ?_)
    rcases hq with ⟨q_9, rfl⟩ | ⟨q_9, rfl⟩
    · refine o_ifne (tgt := 17) hx hb dX0_open_12 (by decide) (by omega) (fun _ => ?_) (fun q => absurd q (by decide))
      refine lv_aload_n hx hb dX0_open_17 rfl (lv_at hl 0 rfl) ?_
      refine lv_iload_n hx hb dX0_open_18 rfl (lv_at hl 1 rfl) ?_
      refine o_iconst hx hb dX0_open_19 ?_
      refine o_call (nA := 2) (As := [.int (iI pp), .int (iI 0)]) (rest := []) E hW hl (xm_freeDescriptor l D cI cZ h a X pp 0 ⟨by omega, by omega⟩ ⟨by omega, by omega⟩ hB2) (lw_V q93 q95 qs1 q21 q96) rfl (by decide +kernel) rfl ⟨Nat.le_of_ble_eq_true rfl, Nat.le_of_ble_eq_true rfl⟩ rfl (Nat.le_of_ble_eq_true rfl) ⟨Nat.le_of_ble_eq_true rfl, Nat.le_of_ble_eq_true rfl⟩ dX0_open_20 (fun z_20 X_20 H locs hq hW => ?_)
      rcases hq with ⟨rfl, rfl, q_20⟩ | ⟨r_20, rfl, s_20, t_20, u_20, q_20⟩
      · refine lv_istore_n (lv' := [(3, .int (iI (-1))), (0, .ref h), (1, .int (iI pp)), (2, .int (iI nn))]) hx hb dX0_open_23 rfl hl (by decide) rfl (fun ls hl => ?_)
        refine lv_iload_n hx hb dX0_open_24 rfl (lv_at hl 0 rfl) ?_
        refine o_ifge (tgt := 31) hx hb dX0_open_25 (by decide) (by omega) (fun q => absurd q (by decide)) (fun _ => ?_)
        refine o_bipush hx hb dX0_open_28 (by decide) ?_
        exact o_ret (z := (-2)) E hW dX0_open_30 (Or.inr (Or.inl ⟨by omega, q_20, rfl, rfl⟩))
      · refine lv_istore_n (lv' := [(3, .int (iI z_20)), (0, .ref h), (1, .int (iI pp)), (2, .int (iI nn))]) hx hb dX0_open_23 rfl hl (by decide) rfl (fun ls hl => ?_)
        refine lv_iload_n hx hb dX0_open_24 rfl (lv_at hl 0 rfl) ?_
        refine o_ifge (tgt := 31) hx hb dX0_open_25 (by decide) (by omega) (fun c_25 => ?_) (fun c_25 => ?_)
        · refine lv_aload_n hx hb dX0_open_31 rfl (lv_at hl 1 rfl) ?_
          refine o_get E hW in_X0 rfl 7 (by decide) (v := .ref (a 7)) rfl q38 rfl dX0_open_32 ?_
          refine lv_iload_n hx hb dX0_open_35 rfl (lv_at hl 3 rfl) ?_
          have h_36 := hB7 nn (by omega) (by omega)
          refine o_ld E hW 7 ⟨by decide, rfl⟩ (by omega) (by omega) (by decide) (z := X 7 nn) rfl dX0_open_36 ?_
          refine o_ifge (tgt := 70) hx hb dX0_open_37 (by decide) (by omega) (fun c_37 => ?_) (fun c_37 => ?_)
          · refine lv_aload_n hx hb dX0_open_70 rfl (lv_at hl 1 rfl) ?_
            refine o_get E hW in_X0 rfl 8 (by decide) (v := .ref (a 8)) rfl q39 rfl dX0_open_71 ?_
            refine lv_aload_n hx hb dX0_open_74 rfl (lv_at hl 1 rfl) ?_
            refine o_get E hW in_X0 rfl 7 (by decide) (v := .ref (a 7)) rfl q38 rfl dX0_open_75 ?_
            refine lv_iload_n hx hb dX0_open_78 rfl (lv_at hl 3 rfl) ?_
            have h_79 := hB7 nn (by omega) (by omega)
            refine o_ld E hW 7 ⟨by decide, rfl⟩ (by omega) (by omega) (by decide) (z := X 7 nn) rfl dX0_open_79 ?_
            refine lv_dup2_11 hx hb dX0_open_80 rfl rfl ?_
            have h_81 := hB8 (X 7 nn) (by omega) (by omega)
            refine o_ld E hW 8 ⟨by decide, rfl⟩ (by omega) (by omega) (by decide) (z := X 8 (X 7 nn)) rfl dX0_open_81 ?_
            refine o_iconst hx hb dX0_open_82 ?_
            refine o_iadd hx hb dX0_open_83 ?_
            refine o_st E hW 8 ⟨by decide, rfl⟩ (by omega) (by omega) (by decide) dX0_open_84 (fun H locs hW => ?_)
            refine lv_aload_n hx hb dX0_open_85 rfl (lv_at hl 1 rfl) ?_
            refine o_get E hW in_X0 rfl 2 (by decide) (v := .ref (a 2)) rfl q33 rfl dX0_open_86 ?_
            refine o_bipush hx hb dX0_open_89 (by decide) ?_
            refine lv_iload_n hx hb dX0_open_91 rfl (lv_at hl 2 rfl) ?_
            refine o_imul hx hb dX0_open_92 ?_
            refine lv_iload_n hx hb dX0_open_93 rfl (lv_at hl 0 rfl) ?_
            refine o_iadd hx hb dX0_open_94 ?_
            refine lv_aload_n hx hb dX0_open_95 rfl (lv_at hl 1 rfl) ?_
            refine o_iconst hx hb dX0_open_96 ?_
            refine lv_aload_n hx hb dX0_open_97 rfl (lv_at hl 1 rfl) ?_
            refine o_get E hW in_X0 rfl 7 (by decide) (v := .ref (a 7)) rfl q38 rfl dX0_open_98 ?_
            refine lv_iload_n hx hb dX0_open_101 rfl (lv_at hl 3 rfl) ?_
            have h_102 := hB7 nn (by omega) (by omega)
            refine o_ld E hW 7 ⟨by decide, rfl⟩ (by omega) (by omega) (by decide) (z := X 7 nn) (su_k (by decide)) dX0_open_102 ?_
            refine o_call (nA := 2) (As := [.int (iI 1), .int (iI (X 7 nn))]) (rest := [.int (iI ((6 * pp) + z_20)), .ref (a 2)]) E hW hl (xm_newOpening l D cI cZ h a (su X 8 (X 7 nn) ((X 8 (X 7 nn)) + 1)) 1 (X 7 nn) hB3) (lw_V q101 q103 qs3 q21 q104) rfl (by decide +kernel) rfl ⟨Nat.le_of_ble_eq_true rfl, Nat.le_of_ble_eq_true rfl⟩ rfl (Nat.le_of_ble_eq_true rfl) ⟨Nat.le_of_ble_eq_true rfl, Nat.le_of_ble_eq_true rfl⟩ dX0_open_103 (fun z_103 X_103 H locs hq hW => ?_)
            obtain ⟨q_103, rfl⟩ := hq
            have ho := lz_r q_103 (by omega)
            refine o_st E hW 2 ⟨by decide, rfl⟩ (by omega) (by omega) (by decide) dX0_open_106 (fun H locs hW => ?_)
            refine lv_iload_n hx hb dX0_open_107 rfl (lv_at hl 0 rfl) ?_
            exact o_ret (z := z_20) E hW dX0_open_108 (Or.inr (Or.inr (Or.inr ⟨by omega, ⟨by omega, by omega, by omega, q_20⟩, by omega, z_103, q_103, rfl⟩)))
          · refine lv_aload_n hx hb dX0_open_40 rfl (lv_at hl 1 rfl) ?_
            refine o_call (nA := 0) (As := []) (rest := []) E hW hl (xm_freeFile l D cI cZ h a X  hB8) (lw_V q97 q99 qs2 q21 q100) rfl (by decide +kernel) rfl ⟨Nat.le_of_ble_eq_true rfl, Nat.le_of_ble_eq_true rfl⟩ rfl (Nat.le_of_ble_eq_true rfl) ⟨Nat.le_of_ble_eq_true rfl, Nat.le_of_ble_eq_true rfl⟩ dX0_open_41 (fun z_41 X_41 H locs hq hW => ?_)
            obtain ⟨q_41, rfl⟩ := hq
            have hf := lz_r q_41 (by omega)
            refine lv_istore (lv' := [(4, .int (iI z_41)), (3, .int (iI z_20)), (0, .ref h), (1, .int (iI pp)), (2, .int (iI nn))]) hx hb dX0_open_44 hl (by decide) rfl (fun ls hl => ?_)
            refine lv_aload_n hx hb dX0_open_46 rfl (lv_at hl 2 rfl) ?_
            refine o_get E hW in_X0 rfl 7 (by decide) (v := .ref (a 7)) rfl q38 rfl dX0_open_47 ?_
            refine lv_iload_n hx hb dX0_open_50 rfl (lv_at hl 4 rfl) ?_
            refine lv_iload hx hb dX0_open_51 (lv_at hl 0 rfl) ?_
            refine o_st E hW 7 ⟨by decide, rfl⟩ (by omega) (by omega) (by decide) dX0_open_53 (fun H locs hW => ?_)
            refine lv_aload_n hx hb dX0_open_54 rfl (lv_at hl 2 rfl) ?_
            refine o_get E hW in_X0 rfl 8 (by decide) (v := .ref (a 8)) rfl q39 rfl dX0_open_55 ?_
            refine lv_iload hx hb dX0_open_58 (lv_at hl 0 rfl) ?_
            refine o_iconst hx hb dX0_open_60 ?_
            refine o_st E hW 8 ⟨by decide, rfl⟩ (by omega) (by omega) (by decide) dX0_open_61 (fun H locs hW => ?_)
            refine lv_aload_n hx hb dX0_open_62 rfl (lv_at hl 2 rfl) ?_
            refine o_get E hW in_X0 rfl 9 (by decide) (v := .ref (a 9)) rfl q40 rfl dX0_open_63 ?_
            refine lv_iload hx hb dX0_open_66 (lv_at hl 0 rfl) ?_
            refine o_iconst hx hb dX0_open_68 ?_
            refine o_st E hW 9 ⟨by decide, rfl⟩ (by omega) (by omega) (by decide) dX0_open_69 (fun H locs hW => ?_)
            refine lv_aload_n hx hb dX0_open_70 rfl (lv_at hl 2 rfl) ?_
            refine o_get E hW in_X0 rfl 8 (by decide) (v := .ref (a 8)) rfl q39 rfl dX0_open_71 ?_
            refine lv_aload_n hx hb dX0_open_74 rfl (lv_at hl 2 rfl) ?_
            refine o_get E hW in_X0 rfl 7 (by decide) (v := .ref (a 7)) rfl q38 rfl dX0_open_75 ?_
            refine lv_iload_n hx hb dX0_open_78 rfl (lv_at hl 4 rfl) ?_
            refine o_ld E hW 7 ⟨by decide, rfl⟩ (by omega) (by omega) (by decide) (z := z_41) ((su_k (by decide)).trans ((su_k (by decide)).trans (su_s))) dX0_open_79 ?_
            refine lv_dup2_11 hx hb dX0_open_80 rfl rfl ?_
            refine o_ld E hW 8 ⟨by decide, rfl⟩ (by omega) (by omega) (by decide) (z := 1) ((su_k (by decide)).trans (su_s)) dX0_open_81 ?_
            refine o_iconst hx hb dX0_open_82 ?_
            refine o_iadd hx hb dX0_open_83 ?_
            refine o_st E hW 8 ⟨by decide, rfl⟩ (by omega) (by omega) (by decide) dX0_open_84 (fun H locs hW => ?_)
            refine lv_aload_n hx hb dX0_open_85 rfl (lv_at hl 2 rfl) ?_
            refine o_get E hW in_X0 rfl 2 (by decide) (v := .ref (a 2)) rfl q33 rfl dX0_open_86 ?_
            refine o_bipush hx hb dX0_open_89 (by decide) ?_
            refine lv_iload_n hx hb dX0_open_91 rfl (lv_at hl 3 rfl) ?_
            refine o_imul hx hb dX0_open_92 ?_
            refine lv_iload_n hx hb dX0_open_93 rfl (lv_at hl 1 rfl) ?_
            refine o_iadd hx hb dX0_open_94 ?_
            refine lv_aload_n hx hb dX0_open_95 rfl (lv_at hl 2 rfl) ?_
            refine o_iconst hx hb dX0_open_96 ?_
            refine lv_aload_n hx hb dX0_open_97 rfl (lv_at hl 2 rfl) ?_
            refine o_get E hW in_X0 rfl 7 (by decide) (v := .ref (a 7)) rfl q38 rfl dX0_open_98 ?_
            refine lv_iload_n hx hb dX0_open_101 rfl (lv_at hl 4 rfl) ?_
            refine o_ld E hW 7 ⟨by decide, rfl⟩ (by omega) (by omega) (by decide) (z := z_41) ((su_k (by decide)).trans ((su_k (by decide)).trans ((su_k (by decide)).trans (su_s)))) dX0_open_102 ?_
            refine o_call (nA := 2) (As := [.int (iI 1), .int (iI z_41)]) (rest := [.int (iI ((6 * pp) + z_20)), .ref (a 2)]) E hW hl (xm_newOpening l D cI cZ h a (su (su (su (su X 7 nn z_41) 8 z_41 1) 9 z_41 0) 8 z_41 (1 + 1)) 1 z_41 hB3) (lw_V q101 q103 qs3 q21 q104) rfl (by decide +kernel) rfl ⟨Nat.le_of_ble_eq_true rfl, Nat.le_of_ble_eq_true rfl⟩ rfl (Nat.le_of_ble_eq_true rfl) ⟨Nat.le_of_ble_eq_true rfl, Nat.le_of_ble_eq_true rfl⟩ dX0_open_103 (fun z_103 X_103 H locs hq hW => ?_)
            obtain ⟨q_103, rfl⟩ := hq
            have ho := lz_r q_103 (by omega)
            refine o_st E hW 2 ⟨by decide, rfl⟩ (by omega) (by omega) (by decide) dX0_open_106 (fun H locs hW => ?_)
            refine lv_iload_n hx hb dX0_open_107 rfl (lv_at hl 1 rfl) ?_
            exact o_ret (z := z_20) E hW dX0_open_108 (Or.inr (Or.inr (Or.inl ⟨by omega, ⟨by omega, by omega, by omega, q_20⟩, by omega, z_41, z_103, q_41, q_103, rfl⟩)))
        · refine o_bipush hx hb dX0_open_28 (by decide) ?_
          exact o_ret (z := (-2)) E hW dX0_open_30 (by exfalso; omega)
    · refine o_ifne (tgt := 17) hx hb dX0_open_12 (by decide) (by omega) (fun q => absurd q (by decide)) (fun _ => ?_)
      refine o_iconst hx hb dX0_open_15 ?_
      exact o_ret (z := (-1)) E hW dX0_open_16 (Or.inl ⟨by omega, rfl, rfl⟩)
  · refine o_ifeq (tgt := 15) hx hb dX0_open_5 (by decide) (by omega) (fun _ => ?_) (fun q => absurd q (by decide))
    refine o_iconst hx hb dX0_open_15 ?_
    exact o_ret (z := (-1)) E hW dX0_open_16 (Or.inl ⟨by omega, rfl, rfl⟩)
set_option maxHeartbeats 4000000 in
/-- pipe -/
theorem xm_pipe (l : Launch) (D : va_G) (cI cZ : ClassId) (h : Nat) (a : Nat → Nat) (X : oS) (pp : Int) (hp : ii_r pp) (hB1 : rg X 1 4 0 1) (hB2 : rg X 2 24 (-1) 23) (hB3 : rg X 3 24 0 24) (hB11 : rg X 11 24 0 1) (hB12 : rg X 12 24 0 1) : oC dX l yX0_pipe cX0_pipe 5 (some .int) 1 24 D cI cZ h a X [.int (iI pp)] (xq_pipe X pp) := by
  refine oC_of (own := RX0) (by decide) rfl (Nat.le_of_ble_eq_true rfl) rfl ?_
  intro p e s m below meth c ls A E hW hl
  have hx := E.1
  have hb := E.2.1
  have hl : lv_has ls 5 [(0, .ref h), (1, .int (iI pp))] := hl
  refine lv_aload_n hx hb dX0_pipe_0 rfl (lv_at hl 0 rfl) ?_
  refine lv_iload_n hx hb dX0_pipe_1 rfl (lv_at hl 1 rfl) ?_
  refine o_call (nA := 1) (As := [.int (iI pp)]) (rest := []) E hW hl (xm_isAlive l D cI cZ h a X pp hp hB1) (lw_V q86 q88 qs0 q21 q89) rfl (by decide +kernel) rfl ⟨Nat.le_of_ble_eq_true rfl, Nat.le_of_ble_eq_true rfl⟩ rfl (Nat.le_of_ble_eq_true rfl) ⟨Nat.le_of_ble_eq_true rfl, Nat.le_of_ble_eq_true rfl⟩ dX0_pipe_2 (fun z_2 X_2 H locs hq hW => ?_)
  rcases hq with ⟨q_2, rfl, rfl⟩ | ⟨q_2, rfl, rfl⟩
  · refine o_ifne (tgt := 10) hx hb dX0_pipe_5 (by decide) (by omega) (fun _ => ?_) (fun q => absurd q (by decide))
    refine lv_aload_n hx hb dX0_pipe_10 rfl (lv_at hl 0 rfl) ?_
    refine lv_iload_n hx hb dX0_pipe_11 rfl (lv_at hl 1 rfl) ?_
    refine o_iconst hx hb dX0_pipe_12 ?_
    refine o_call (nA := 2) (As := [.int (iI pp), .int (iI 0)]) (rest := []) E hW hl (xm_freeDescriptor l D cI cZ h a X pp 0 ⟨by omega, by omega⟩ ⟨by omega, by omega⟩ hB2) (lw_V q93 q95 qs1 q21 q96) rfl (by decide +kernel) rfl ⟨Nat.le_of_ble_eq_true rfl, Nat.le_of_ble_eq_true rfl⟩ rfl (Nat.le_of_ble_eq_true rfl) ⟨Nat.le_of_ble_eq_true rfl, Nat.le_of_ble_eq_true rfl⟩ dX0_pipe_13 (fun z_13 X_13 H locs hq hW => ?_)
    rcases hq with ⟨rfl, rfl, q_13⟩ | ⟨r_13, rfl, s_13, t_13, u_13, q_13⟩
    · refine lv_istore_n (lv' := [(2, .int (iI (-1))), (0, .ref h), (1, .int (iI pp))]) hx hb dX0_pipe_16 rfl hl (by decide) rfl (fun ls hl => ?_)
      refine lv_iload_n hx hb dX0_pipe_17 rfl (lv_at hl 0 rfl) ?_
      refine o_ifge (tgt := 25) hx hb dX0_pipe_18 (by decide) (by omega) (fun q => absurd q (by decide)) (fun _ => ?_)
      refine o_iconst hx hb dX0_pipe_21 ?_
      refine lv_goto (tgt := 33) hx hb dX0_pipe_22 (by decide) ?_
      refine lv_istore_n (lv' := [(3, .int (iI (-1))), (2, .int (iI (-1))), (0, .ref h), (1, .int (iI pp))]) hx hb dX0_pipe_33 rfl hl (by decide) rfl (fun ls hl => ?_)
      refine lv_iload_n hx hb dX0_pipe_34 rfl (lv_at hl 0 rfl) ?_
      refine o_ifge (tgt := 41) hx hb dX0_pipe_35 (by decide) (by omega) (fun q => absurd q (by decide)) (fun _ => ?_)
      refine o_bipush hx hb dX0_pipe_38 (by decide) ?_
      exact o_ret (z := (-2)) E hW dX0_pipe_40 (Or.inr (Or.inl ⟨by omega, q_13, rfl, rfl⟩))
    · refine lv_istore_n (lv' := [(2, .int (iI z_13)), (0, .ref h), (1, .int (iI pp))]) hx hb dX0_pipe_16 rfl hl (by decide) rfl (fun ls hl => ?_)
      refine lv_iload_n hx hb dX0_pipe_17 rfl (lv_at hl 0 rfl) ?_
      refine o_ifge (tgt := 25) hx hb dX0_pipe_18 (by decide) (by omega) (fun c_18 => ?_) (fun c_18 => ?_)
      · refine lv_aload_n hx hb dX0_pipe_25 rfl (lv_at hl 1 rfl) ?_
        refine lv_iload_n hx hb dX0_pipe_26 rfl (lv_at hl 2 rfl) ?_
        refine lv_iload_n hx hb dX0_pipe_27 rfl (lv_at hl 0 rfl) ?_
        refine o_iconst hx hb dX0_pipe_28 ?_
        refine o_iadd hx hb dX0_pipe_29 ?_
        refine o_call (nA := 2) (As := [.int (iI pp), .int (iI (z_13 + 1))]) (rest := []) E hW hl (xm_freeDescriptor l D cI cZ h a X pp (z_13 + 1) ⟨by omega, by omega⟩ ⟨by omega, by omega⟩ hB2) (lw_V q93 q95 qs1 q21 q96) rfl (by decide +kernel) rfl ⟨Nat.le_of_ble_eq_true rfl, Nat.le_of_ble_eq_true rfl⟩ rfl (Nat.le_of_ble_eq_true rfl) ⟨Nat.le_of_ble_eq_true rfl, Nat.le_of_ble_eq_true rfl⟩ dX0_pipe_30 (fun z_30 X_30 H locs hq hW => ?_)
        rcases hq with ⟨rfl, rfl, q_30⟩ | ⟨r_30, rfl, s_30, t_30, u_30, q_30⟩
        · refine lv_istore_n (lv' := [(3, .int (iI (-1))), (2, .int (iI z_13)), (0, .ref h), (1, .int (iI pp))]) hx hb dX0_pipe_33 rfl hl (by decide) rfl (fun ls hl => ?_)
          refine lv_iload_n hx hb dX0_pipe_34 rfl (lv_at hl 0 rfl) ?_
          refine o_ifge (tgt := 41) hx hb dX0_pipe_35 (by decide) (by omega) (fun q => absurd q (by decide)) (fun _ => ?_)
          refine o_bipush hx hb dX0_pipe_38 (by decide) ?_
          exact o_ret (z := (-2)) E hW dX0_pipe_40 (Or.inr (Or.inr (Or.inl ⟨by omega, ⟨z_13, ⟨by omega, by omega, by omega, q_13⟩, q_30⟩, rfl, rfl⟩)))
        · refine lv_istore_n (lv' := [(3, .int (iI z_30)), (2, .int (iI z_13)), (0, .ref h), (1, .int (iI pp))]) hx hb dX0_pipe_33 rfl hl (by decide) rfl (fun ls hl => ?_)
          refine lv_iload_n hx hb dX0_pipe_34 rfl (lv_at hl 0 rfl) ?_
          refine o_ifge (tgt := 41) hx hb dX0_pipe_35 (by decide) (by omega) (fun c_35 => ?_) (fun c_35 => ?_)
          · refine lv_aload_n hx hb dX0_pipe_41 rfl (lv_at hl 2 rfl) ?_
            refine o_call (nA := 0) (As := []) (rest := []) E hW hl (xm_freePipe l D cI cZ h a X  hB11 hB12) (lw_V q109 q111 qs4 q21 q112) rfl (by decide +kernel) rfl ⟨Nat.le_of_ble_eq_true rfl, Nat.le_of_ble_eq_true rfl⟩ rfl (Nat.le_of_ble_eq_true rfl) ⟨Nat.le_of_ble_eq_true rfl, Nat.le_of_ble_eq_true rfl⟩ dX0_pipe_42 (fun z_42 X_42 H locs hq hW => ?_)
            obtain ⟨q_42, rfl⟩ := hq
            have hf := lz_r q_42 (by omega)
            refine lv_istore (lv' := [(4, .int (iI z_42)), (3, .int (iI z_30)), (2, .int (iI z_13)), (0, .ref h), (1, .int (iI pp))]) hx hb dX0_pipe_45 hl (by decide) rfl (fun ls hl => ?_)
            refine lv_aload_n hx hb dX0_pipe_47 rfl (lv_at hl 3 rfl) ?_
            refine o_get E hW in_X0 rfl 11 (by decide) (v := .ref (a 11)) rfl q42 rfl dX0_pipe_48 ?_
            refine lv_iload hx hb dX0_pipe_51 (lv_at hl 0 rfl) ?_
            refine o_iconst hx hb dX0_pipe_53 ?_
            refine o_zst E hW 11 ⟨by decide, rfl⟩ (by omega) (by omega) (by decide) (by decide) dX0_pipe_54 (fun H locs hW => ?_)
            refine lv_aload_n hx hb dX0_pipe_55 rfl (lv_at hl 3 rfl) ?_
            refine o_get E hW in_X0 rfl 12 (by decide) (v := .ref (a 12)) rfl q43 rfl dX0_pipe_56 ?_
            refine lv_iload hx hb dX0_pipe_59 (lv_at hl 0 rfl) ?_
            refine o_iconst hx hb dX0_pipe_61 ?_
            refine o_zst E hW 12 ⟨by decide, rfl⟩ (by omega) (by omega) (by decide) (by decide) dX0_pipe_62 (fun H locs hW => ?_)
            refine lv_aload_n hx hb dX0_pipe_63 rfl (lv_at hl 3 rfl) ?_
            refine o_get E hW in_X0 rfl 13 (by decide) (v := .ref (a 13)) rfl q44 rfl dX0_pipe_64 ?_
            refine lv_iload hx hb dX0_pipe_67 (lv_at hl 0 rfl) ?_
            refine o_iconst hx hb dX0_pipe_69 ?_
            refine o_st E hW 13 ⟨by decide, rfl⟩ (by omega) (by omega) (by decide) dX0_pipe_70 (fun H locs hW => ?_)
            refine lv_aload_n hx hb dX0_pipe_71 rfl (lv_at hl 3 rfl) ?_
            refine o_get E hW in_X0 rfl 14 (by decide) (v := .ref (a 14)) rfl q45 rfl dX0_pipe_72 ?_
            refine lv_iload hx hb dX0_pipe_75 (lv_at hl 0 rfl) ?_
            refine o_iconst hx hb dX0_pipe_77 ?_
            refine o_st E hW 14 ⟨by decide, rfl⟩ (by omega) (by omega) (by decide) dX0_pipe_78 (fun H locs hW => ?_)
            refine lv_aload_n hx hb dX0_pipe_79 rfl (lv_at hl 3 rfl) ?_
            refine o_get E hW in_X0 rfl 2 (by decide) (v := .ref (a 2)) rfl q33 rfl dX0_pipe_80 ?_
            refine o_bipush hx hb dX0_pipe_83 (by decide) ?_
            refine lv_iload_n hx hb dX0_pipe_85 rfl (lv_at hl 4 rfl) ?_
            refine o_imul hx hb dX0_pipe_86 ?_
            refine lv_iload_n hx hb dX0_pipe_87 rfl (lv_at hl 2 rfl) ?_
            refine o_iadd hx hb dX0_pipe_88 ?_
            refine lv_aload_n hx hb dX0_pipe_89 rfl (lv_at hl 3 rfl) ?_
            refine o_iconst hx hb dX0_pipe_90 ?_
            refine lv_iload hx hb dX0_pipe_91 (lv_at hl 0 rfl) ?_
            refine o_call (nA := 2) (As := [.int (iI 2), .int (iI z_42)]) (rest := [.int (iI ((6 * pp) + z_13)), .ref (a 2)]) E hW hl (xm_newOpening l D cI cZ h a (su (su (su (su X 11 z_42 1) 12 z_42 1) 13 z_42 0) 14 z_42 0) 2 z_42 hB3) (lw_V q101 q103 qs3 q21 q104) rfl (by decide +kernel) rfl ⟨Nat.le_of_ble_eq_true rfl, Nat.le_of_ble_eq_true rfl⟩ rfl (Nat.le_of_ble_eq_true rfl) ⟨Nat.le_of_ble_eq_true rfl, Nat.le_of_ble_eq_true rfl⟩ dX0_pipe_93 (fun z_93 X_93 H locs hq hW => ?_)
            obtain ⟨q_93, rfl⟩ := hq
            have ho := lz_r q_93 (by omega)
            refine o_st E hW 2 ⟨by decide, rfl⟩ (by omega) (by omega) (by decide) dX0_pipe_96 (fun H locs hW => ?_)
            refine lv_aload_n hx hb dX0_pipe_97 rfl (lv_at hl 3 rfl) ?_
            refine o_get E hW in_X0 rfl 2 (by decide) (v := .ref (a 2)) rfl q33 rfl dX0_pipe_98 ?_
            refine o_bipush hx hb dX0_pipe_101 (by decide) ?_
            refine lv_iload_n hx hb dX0_pipe_103 rfl (lv_at hl 4 rfl) ?_
            refine o_imul hx hb dX0_pipe_104 ?_
            refine lv_iload_n hx hb dX0_pipe_105 rfl (lv_at hl 1 rfl) ?_
            refine o_iadd hx hb dX0_pipe_106 ?_
            refine lv_aload_n hx hb dX0_pipe_107 rfl (lv_at hl 3 rfl) ?_
            refine o_iconst hx hb dX0_pipe_108 ?_
            refine lv_iload hx hb dX0_pipe_109 (lv_at hl 0 rfl) ?_
            refine o_call (nA := 2) (As := [.int (iI 3), .int (iI z_42)]) (rest := [.int (iI ((6 * pp) + z_30)), .ref (a 2)]) E hW hl (xm_newOpening l D cI cZ h a (su (su (su (su (su (su (su (su (su X 11 z_42 1) 12 z_42 1) 13 z_42 0) 14 z_42 0) 3 z_93 1) 4 z_93 2) 5 z_93 z_42) 6 z_93 0) 2 ((6 * pp) + z_13) z_93) 3 z_42 (fun i h0 h1 => by have := hB3 i h0 h1; simp only [su]; split <;> (try split) <;> omega)) (lw_V q101 q103 qs3 q21 q104) rfl (by decide +kernel) rfl ⟨Nat.le_of_ble_eq_true rfl, Nat.le_of_ble_eq_true rfl⟩ rfl (Nat.le_of_ble_eq_true rfl) ⟨Nat.le_of_ble_eq_true rfl, Nat.le_of_ble_eq_true rfl⟩ dX0_pipe_111 (fun z_111 X_111 H locs hq hW => ?_)
            obtain ⟨q_111, rfl⟩ := hq
            have ho2 := lz_r q_111 (by omega)
            refine o_st E hW 2 ⟨by decide, rfl⟩ (by omega) (by omega) (by decide) dX0_pipe_114 (fun H locs hW => ?_)
            refine o_bipush hx hb dX0_pipe_115 (by decide) ?_
            refine lv_iload_n hx hb dX0_pipe_117 rfl (lv_at hl 2 rfl) ?_
            refine o_imul hx hb dX0_pipe_118 ?_
            refine lv_iload_n hx hb dX0_pipe_119 rfl (lv_at hl 1 rfl) ?_
            refine o_iadd hx hb dX0_pipe_120 ?_
            exact o_ret (z := ((8 * z_13) + z_30)) E hW dX0_pipe_121 (Or.inr (Or.inr (Or.inr ⟨by omega, z_13, z_30, z_42, z_93, z_111, ⟨by omega, by omega, by omega, q_13⟩, ⟨by omega, by omega, by omega, q_30⟩, q_42, q_93, q_111, rfl, rfl⟩)))
          · refine o_bipush hx hb dX0_pipe_38 (by decide) ?_
            exact o_ret (z := (-2)) E hW dX0_pipe_40 (by exfalso; omega)
      · refine o_iconst hx hb dX0_pipe_21 ?_
        refine lv_goto (tgt := 33) hx hb dX0_pipe_22 (by decide) ?_
        refine lv_istore_n (lv' := [(3, .int (iI (-1))), (2, .int (iI z_13)), (0, .ref h), (1, .int (iI pp))]) hx hb dX0_pipe_33 rfl hl (by decide) rfl (fun ls hl => ?_)
        refine lv_iload_n hx hb dX0_pipe_34 rfl (lv_at hl 0 rfl) ?_
        refine o_ifge (tgt := 41) hx hb dX0_pipe_35 (by decide) (by omega) (fun q => absurd q (by decide)) (fun _ => ?_)
        refine o_bipush hx hb dX0_pipe_38 (by decide) ?_
        exact o_ret (z := (-2)) E hW dX0_pipe_40 (by exfalso; omega)
  · refine o_ifne (tgt := 10) hx hb dX0_pipe_5 (by decide) (by omega) (fun q => absurd q (by decide)) (fun _ => ?_)
    refine o_iconst hx hb dX0_pipe_8 ?_
    exact o_ret (z := (-1)) E hW dX0_pipe_9 (Or.inl ⟨by omega, rfl, rfl⟩)
set_option maxHeartbeats 4000000 in
/-- dup -/
theorem xm_dup (l : Launch) (D : va_G) (cI cZ : ClassId) (h : Nat) (a : Nat → Nat) (X : oS) (pp : Int) (dd : Int) (hp : ii_r pp) (hd : ii_r dd) (hB1 : rg X 1 4 0 1) (hB2 : rg X 2 24 (-1) 23) : oC dX l yX0_dup cX0_dup 5 (some .int) 2 43 D cI cZ h a X [.int (iI pp), .int (iI dd)] (xq_dup X pp dd) := by
  refine oC_of (own := RX0) (by decide) rfl (Nat.le_of_ble_eq_true rfl) rfl ?_
  intro p e s m below meth c ls A E hW hl
  have hx := E.1
  have hb := E.2.1
  have hl : lv_has ls 5 [(0, .ref h), (1, .int (iI pp)), (2, .int (iI dd))] := hl
  refine lv_aload_n hx hb dX0_dup_0 rfl (lv_at hl 0 rfl) ?_
  refine lv_iload_n hx hb dX0_dup_1 rfl (lv_at hl 1 rfl) ?_
  refine lv_iload_n hx hb dX0_dup_2 rfl (lv_at hl 2 rfl) ?_
  refine o_call (nA := 2) (As := [.int (iI pp), .int (iI dd)]) (rest := []) E hW hl (xm_openingOf l D cI cZ h a X pp dd hp hd hB1 hB2) (lw_V q117 q119 qs5 q21 q120) rfl (by decide +kernel) rfl ⟨Nat.le_of_ble_eq_true rfl, Nat.le_of_ble_eq_true rfl⟩ rfl (Nat.le_of_ble_eq_true rfl) ⟨Nat.le_of_ble_eq_true rfl, Nat.le_of_ble_eq_true rfl⟩ dX0_dup_3 (fun z_3 X_3 H locs hq hW => ?_)
  rcases hq with ⟨q_3, r_3, s_3, rfl, rfl⟩ | ⟨q_3, rfl, rfl⟩
  · have hO := hB2 (6 * pp + dd) (by omega) (by omega)
    refine lv_istore_n (lv' := [(3, .int (iI (X 2 (6 * pp + dd)))), (0, .ref h), (1, .int (iI pp)), (2, .int (iI dd))]) hx hb dX0_dup_6 rfl hl (by decide) rfl (fun ls hl => ?_)
    refine lv_iload_n hx hb dX0_dup_7 rfl (lv_at hl 0 rfl) ?_
    refine o_ifge (tgt := 13) hx hb dX0_dup_8 (by decide) (by omega) (fun c_8 => ?_) (fun c_8 => ?_)
    · refine lv_aload_n hx hb dX0_dup_13 rfl (lv_at hl 1 rfl) ?_
      refine lv_iload_n hx hb dX0_dup_14 rfl (lv_at hl 2 rfl) ?_
      refine o_iconst hx hb dX0_dup_15 ?_
      refine o_call (nA := 2) (As := [.int (iI pp), .int (iI 0)]) (rest := []) E hW hl (xm_freeDescriptor l D cI cZ h a X pp 0 ⟨by omega, by omega⟩ ⟨by omega, by omega⟩ hB2) (lw_V q93 q95 qs1 q21 q96) rfl (by decide +kernel) rfl ⟨Nat.le_of_ble_eq_true rfl, Nat.le_of_ble_eq_true rfl⟩ rfl (Nat.le_of_ble_eq_true rfl) ⟨Nat.le_of_ble_eq_true rfl, Nat.le_of_ble_eq_true rfl⟩ dX0_dup_16 (fun z_16 X_16 H locs hq hW => ?_)
      rcases hq with ⟨rfl, rfl, q_16⟩ | ⟨r_16, rfl, s_16, t_16, u_16, q_16⟩
      · refine lv_istore (lv' := [(4, .int (iI (-1))), (3, .int (iI (X 2 (6 * pp + dd)))), (0, .ref h), (1, .int (iI pp)), (2, .int (iI dd))]) hx hb dX0_dup_19 hl (by decide) rfl (fun ls hl => ?_)
        refine lv_iload hx hb dX0_dup_21 (lv_at hl 0 rfl) ?_
        refine o_ifge (tgt := 29) hx hb dX0_dup_23 (by decide) (by omega) (fun q => absurd q (by decide)) (fun _ => ?_)
        refine o_bipush hx hb dX0_dup_26 (by decide) ?_
        exact o_ret (z := (-2)) E hW dX0_dup_28 (Or.inr (Or.inl ⟨by omega, q_16, rfl, rfl⟩))
      · refine lv_istore (lv' := [(4, .int (iI z_16)), (3, .int (iI (X 2 (6 * pp + dd)))), (0, .ref h), (1, .int (iI pp)), (2, .int (iI dd))]) hx hb dX0_dup_19 hl (by decide) rfl (fun ls hl => ?_)
        refine lv_iload hx hb dX0_dup_21 (lv_at hl 0 rfl) ?_
        refine o_ifge (tgt := 29) hx hb dX0_dup_23 (by decide) (by omega) (fun c_23 => ?_) (fun c_23 => ?_)
        · refine lv_aload_n hx hb dX0_dup_29 rfl (lv_at hl 2 rfl) ?_
          refine o_get E hW in_X0 rfl 2 (by decide) (v := .ref (a 2)) rfl q33 rfl dX0_dup_30 ?_
          refine o_bipush hx hb dX0_dup_33 (by decide) ?_
          refine lv_iload_n hx hb dX0_dup_35 rfl (lv_at hl 3 rfl) ?_
          refine o_imul hx hb dX0_dup_36 ?_
          refine lv_iload hx hb dX0_dup_37 (lv_at hl 0 rfl) ?_
          refine o_iadd hx hb dX0_dup_39 ?_
          refine lv_iload_n hx hb dX0_dup_40 rfl (lv_at hl 1 rfl) ?_
          refine o_st E hW 2 ⟨by decide, rfl⟩ (by omega) (by omega) (by decide) dX0_dup_41 (fun H locs hW => ?_)
          refine lv_aload_n hx hb dX0_dup_42 rfl (lv_at hl 2 rfl) ?_
          refine o_get E hW in_X0 rfl 3 (by decide) (v := .ref (a 3)) rfl q34 rfl dX0_dup_43 ?_
          refine lv_iload_n hx hb dX0_dup_46 rfl (lv_at hl 1 rfl) ?_
          refine lv_dup2_11 hx hb dX0_dup_47 rfl rfl ?_
          refine o_ld E hW 3 ⟨by decide, rfl⟩ (by omega) (by omega) (by decide) (z := X 3 (X 2 (6 * pp + dd))) (su_k (by decide)) dX0_dup_48 ?_
          refine o_iconst hx hb dX0_dup_49 ?_
          refine o_iadd hx hb dX0_dup_50 ?_
          refine o_st E hW 3 ⟨by decide, rfl⟩ (by omega) (by omega) (by decide) dX0_dup_51 (fun H locs hW => ?_)
          refine lv_iload hx hb dX0_dup_52 (lv_at hl 0 rfl) ?_
          exact o_ret (z := z_16) E hW dX0_dup_54 (Or.inr (Or.inr ⟨by omega, ⟨by omega, by omega, by omega, q_16⟩, rfl⟩))
        · refine o_bipush hx hb dX0_dup_26 (by decide) ?_
          exact o_ret (z := (-2)) E hW dX0_dup_28 (by exfalso; omega)
    · refine o_iconst hx hb dX0_dup_11 ?_
      exact o_ret (z := (-1)) E hW dX0_dup_12 (Or.inl ⟨by omega, rfl, rfl⟩)
  · refine lv_istore_n (lv' := [(3, .int (iI (-1))), (0, .ref h), (1, .int (iI pp)), (2, .int (iI dd))]) hx hb dX0_dup_6 rfl hl (by decide) rfl (fun ls hl => ?_)
    refine lv_iload_n hx hb dX0_dup_7 rfl (lv_at hl 0 rfl) ?_
    refine o_ifge (tgt := 13) hx hb dX0_dup_8 (by decide) (by omega) (fun q => absurd q (by decide)) (fun _ => ?_)
    refine o_iconst hx hb dX0_dup_11 ?_
    exact o_ret (z := (-1)) E hW dX0_dup_12 (Or.inl ⟨by omega, rfl, rfl⟩)
set_option maxHeartbeats 4000000 in
/-- close -/
theorem xm_close (l : Launch) (D : va_G) (cI cZ : ClassId) (h : Nat) (a : Nat → Nat) (X : oS) (pp : Int) (dd : Int) (hp : ii_r pp) (hd : ii_r dd) (hB1 : rg X 1 4 0 1) (hB2 : rg X 2 24 (-1) 23) (hB3 : rg X 3 24 0 24) (hB4 : rg X 4 24 0 3) (hB5 : rg X 5 24 0 27) (hB45 : ∀ i, 0 ≤ i → i < 24 → 0 ≤ X 2 (6 * pp + dd) → i = X 2 (6 * pp + dd) → X 4 i ≠ 1 → X 5 i ≤ 23) : oC dX l yX0_close cX0_close 4 (some .int) 2 43 D cI cZ h a X [.int (iI pp), .int (iI dd)] (xq_close X pp dd) := by
  refine oC_of (own := RX0) (by decide) rfl (Nat.le_of_ble_eq_true rfl) rfl ?_
  intro p e s m below meth c ls A E hW hl
  have hx := E.1
  have hb := E.2.1
  have hl : lv_has ls 4 [(0, .ref h), (1, .int (iI pp)), (2, .int (iI dd))] := hl
  refine lv_aload_n hx hb dX0_close_0 rfl (lv_at hl 0 rfl) ?_
  refine lv_iload_n hx hb dX0_close_1 rfl (lv_at hl 1 rfl) ?_
  refine lv_iload_n hx hb dX0_close_2 rfl (lv_at hl 2 rfl) ?_
  refine o_call (nA := 2) (As := [.int (iI pp), .int (iI dd)]) (rest := []) E hW hl (xm_openingOf l D cI cZ h a X pp dd hp hd hB1 hB2) (lw_V q117 q119 qs5 q21 q120) rfl (by decide +kernel) rfl ⟨Nat.le_of_ble_eq_true rfl, Nat.le_of_ble_eq_true rfl⟩ rfl (Nat.le_of_ble_eq_true rfl) ⟨Nat.le_of_ble_eq_true rfl, Nat.le_of_ble_eq_true rfl⟩ dX0_close_3 (fun z_3 X_3 H locs hq hW => ?_)
  rcases hq with ⟨q_3, r_3, s_3, rfl, rfl⟩ | ⟨q_3, rfl, rfl⟩
  · have hO := hB2 (6 * pp + dd) (by omega) (by omega)
    refine lv_istore_n (lv' := [(3, .int (iI (X 2 (6 * pp + dd)))), (0, .ref h), (1, .int (iI pp)), (2, .int (iI dd))]) hx hb dX0_close_6 rfl hl (by decide) rfl (fun ls hl => ?_)
    refine lv_iload_n hx hb dX0_close_7 rfl (lv_at hl 0 rfl) ?_
    refine o_ifge (tgt := 13) hx hb dX0_close_8 (by decide) (by omega) (fun c_8 => ?_) (fun c_8 => ?_)
    · refine lv_aload_n hx hb dX0_close_13 rfl (lv_at hl 1 rfl) ?_
      refine o_get E hW in_X0 rfl 2 (by decide) (v := .ref (a 2)) rfl q33 rfl dX0_close_14 ?_
      refine o_bipush hx hb dX0_close_17 (by decide) ?_
      refine lv_iload_n hx hb dX0_close_19 rfl (lv_at hl 2 rfl) ?_
      refine o_imul hx hb dX0_close_20 ?_
      refine lv_iload_n hx hb dX0_close_21 rfl (lv_at hl 3 rfl) ?_
      refine o_iadd hx hb dX0_close_22 ?_
      refine o_iconst hx hb dX0_close_23 ?_
      refine o_st E hW 2 ⟨by decide, rfl⟩ (by omega) (by omega) (by decide) dX0_close_24 (fun H locs hW => ?_)
      refine lv_aload_n hx hb dX0_close_25 rfl (lv_at hl 1 rfl) ?_
      refine lv_iload_n hx hb dX0_close_26 rfl (lv_at hl 0 rfl) ?_
      refine o_callv (nA := 1) (As := [.int (iI (X 2 (6 * pp + dd)))]) (rest := []) E hW hl (xm_letGo l D cI cZ h a (su X 2 ((6 * pp) + dd) (-1)) (X 2 (6 * pp + dd)) ⟨by omega, by omega⟩ (hB3 _ (by omega) (by omega)) (hB4 _ (by omega) (by omega)) (hB5 _ (by omega) (by omega)) (hB45 _ (by omega) (by omega) (by omega) rfl)) (lw_V q125 q127 qs6 q21 q128) rfl (by decide +kernel) rfl ⟨Nat.le_of_ble_eq_true rfl, Nat.le_of_ble_eq_true rfl⟩ rfl (Nat.le_of_ble_eq_true rfl) ⟨Nat.le_of_ble_eq_true rfl, Nat.le_of_ble_eq_true rfl⟩ dX0_close_27 (fun X_27 H locs hq hW => ?_)
      obtain rfl := hq
      refine o_iconst hx hb dX0_close_30 ?_
      exact o_ret (z := 0) E hW dX0_close_31 (Or.inr ⟨by omega, rfl, rfl⟩)
    · refine o_iconst hx hb dX0_close_11 ?_
      exact o_ret (z := (-1)) E hW dX0_close_12 (Or.inl ⟨by omega, rfl, rfl⟩)
  · refine lv_istore_n (lv' := [(3, .int (iI (-1))), (0, .ref h), (1, .int (iI pp)), (2, .int (iI dd))]) hx hb dX0_close_6 rfl hl (by decide) rfl (fun ls hl => ?_)
    refine lv_iload_n hx hb dX0_close_7 rfl (lv_at hl 0 rfl) ?_
    refine o_ifge (tgt := 13) hx hb dX0_close_8 (by decide) (by omega) (fun q => absurd q (by decide)) (fun _ => ?_)
    refine o_iconst hx hb dX0_close_11 ?_
    exact o_ret (z := (-1)) E hW dX0_close_12 (Or.inl ⟨by omega, rfl, rfl⟩)
set_option maxHeartbeats 4000000 in
/-- write -/
theorem xm_write (l : Launch) (D : va_G) (cI cZ : ClassId) (h : Nat) (a : Nat → Nat) (X : oS) (pp : Int) (dd : Int) (vv : Int) (hp : ii_r pp) (hd : ii_r dd) (hB1 : rg X 1 4 0 1) (hB2 : rg X 2 24 (-1) 23) (hB4 : rg X 4 24 0 3) (hB5 : rg X 5 24 0 27) (hB6 : rg X 6 24 0 8) (hB9 : rg X 9 28 0 8) (hB11 : rg X 11 24 0 1) (hB13 : rg X 13 24 0 5) (hB14 : rg X 14 24 0 6) (hB45 : hasD X pp dd → X 4 (X 2 (6 * pp + dd)) ≠ 1 → X 5 (X 2 (6 * pp + dd)) ≤ 23) : oC dX l yX0_write cX0_write 5 (some .int) 2 43 D cI cZ h a X [.int (iI pp), .int (iI dd), .int (iI vv)] (xq_write X pp dd vv) := by
  refine oC_of (own := RX0) (by decide) rfl (Nat.le_of_ble_eq_true rfl) rfl ?_
  intro p e s m below meth c ls A E hW hl
  have hx := E.1
  have hb := E.2.1
  have hl : lv_has ls 5 [(0, .ref h), (1, .int (iI pp)), (2, .int (iI dd)), (3, .int (iI vv))] := hl
  refine lv_aload_n hx hb dX0_write_0 rfl (lv_at hl 0 rfl) ?_
  refine lv_iload_n hx hb dX0_write_1 rfl (lv_at hl 1 rfl) ?_
  refine lv_iload_n hx hb dX0_write_2 rfl (lv_at hl 2 rfl) ?_
  refine o_call (nA := 2) (As := [.int (iI pp), .int (iI dd)]) (rest := []) E hW hl (xm_openingOf l D cI cZ h a X pp dd hp hd hB1 hB2) (lw_V q117 q119 qs5 q21 q120) rfl (by decide +kernel) rfl ⟨Nat.le_of_ble_eq_true rfl, Nat.le_of_ble_eq_true rfl⟩ rfl (Nat.le_of_ble_eq_true rfl) ⟨Nat.le_of_ble_eq_true rfl, Nat.le_of_ble_eq_true rfl⟩ dX0_write_3 (fun z_3 X_3 H locs hq hW => ?_)
  rcases hq with ⟨q_3, r_3, s_3, rfl, rfl⟩ | ⟨q_3, rfl, rfl⟩
  · have hO := hB2 (6 * pp + dd) (by omega) (by omega)
    refine lv_istore (lv' := [(4, .int (iI (X 2 (6 * pp + dd)))), (0, .ref h), (1, .int (iI pp)), (2, .int (iI dd)), (3, .int (iI vv))]) hx hb dX0_write_6 hl (by decide) rfl (fun ls hl => ?_)
    refine lv_iload hx hb dX0_write_8 (lv_at hl 0 rfl) ?_
    refine o_iflt (tgt := 24) hx hb dX0_write_10 (by decide) (by omega) (fun c_10 => ?_) (fun c_10 => ?_)
    · refine o_iconst hx hb dX0_write_24 ?_
      exact o_ret (z := (-1)) E hW dX0_write_25 (Or.inl ⟨by omega, rfl, rfl⟩)
    · refine lv_aload_n hx hb dX0_write_13 rfl (lv_at hl 1 rfl) ?_
      refine o_get E hW in_X0 rfl 4 (by decide) (v := .ref (a 4)) rfl q35 rfl dX0_write_14 ?_
      refine lv_iload hx hb dX0_write_17 (lv_at hl 0 rfl) ?_
      have h_19 := hB4 (X 2 (6 * pp + dd)) (by omega) (by omega)
      refine o_ld E hW 4 ⟨by decide, rfl⟩ (by omega) (by omega) (by decide) (z := X 4 (X 2 (6 * pp + dd))) rfl dX0_write_19 ?_
      refine o_iconst hx hb dX0_write_20 ?_
      refine o_cne (tgt := 26) hx hb dX0_write_21 (by decide) (by omega) (by omega) (fun c_21 => ?_) (fun c_21 => ?_)
      · refine lv_aload_n hx hb dX0_write_26 rfl (lv_at hl 1 rfl) ?_
        refine o_get E hW in_X0 rfl 4 (by decide) (v := .ref (a 4)) rfl q35 rfl dX0_write_27 ?_
        refine lv_iload hx hb dX0_write_30 (lv_at hl 0 rfl) ?_
        have h_32 := hB4 (X 2 (6 * pp + dd)) (by omega) (by omega)
        refine o_ld E hW 4 ⟨by decide, rfl⟩ (by omega) (by omega) (by decide) (z := X 4 (X 2 (6 * pp + dd))) rfl dX0_write_32 ?_
        refine o_iconst hx hb dX0_write_33 ?_
        refine o_cne (tgt := 51) hx hb dX0_write_34 (by decide) (by omega) (by omega) (fun c_34 => ?_) (fun c_34 => ?_)
        · refine lv_aload_n hx hb dX0_write_51 rfl (lv_at hl 1 rfl) ?_
          refine lv_aload_n hx hb dX0_write_52 rfl (lv_at hl 1 rfl) ?_
          refine o_get E hW in_X0 rfl 5 (by decide) (v := .ref (a 5)) rfl q36 rfl dX0_write_53 ?_
          refine lv_iload hx hb dX0_write_56 (lv_at hl 0 rfl) ?_
          have h_58 := hB5 (X 2 (6 * pp + dd)) (by omega) (by omega)
          refine o_ld E hW 5 ⟨by decide, rfl⟩ (by omega) (by omega) (by decide) (z := X 5 (X 2 (6 * pp + dd))) rfl dX0_write_58 ?_
          refine lv_iload_n hx hb dX0_write_59 rfl (lv_at hl 4 rfl) ?_
          refine o_sipush hx hb dX0_write_60 (by decide) ?_
          refine o_iand hx hb dX0_write_63 ?_
          have h45 := hB45 ⟨by omega, by omega, by omega, by omega⟩ (by omega)
          refine o_call (nA := 2) (As := [.int (iI (X 5 (X 2 (6 * pp + dd)))), .int (iI ((iI vv &&& iI 255).toInt))]) (rest := []) E hW hl (xm_writePipe l D cI cZ h a X (X 5 (X 2 (6 * pp + dd))) ((iI vv &&& iI 255).toInt) ⟨by omega, by omega⟩ hB11 hB13 hB14) (lw_V q145 q147 qs8 q21 q148) rfl (by decide +kernel) rfl ⟨Nat.le_of_ble_eq_true rfl, Nat.le_of_ble_eq_true rfl⟩ rfl (Nat.le_of_ble_eq_true rfl) ⟨Nat.le_of_ble_eq_true rfl, Nat.le_of_ble_eq_true rfl⟩ dX0_write_64 (fun z_64 X_64 H locs hq hW => ?_)
          have hq_64 := hq
          exact o_ret (z := z_64) E hW dX0_write_67 (Or.inr (Or.inr ⟨by omega, by omega, by omega, hq_64⟩))
        · refine lv_aload_n hx hb dX0_write_37 rfl (lv_at hl 1 rfl) ?_
          refine lv_iload hx hb dX0_write_38 (lv_at hl 0 rfl) ?_
          refine lv_iload_n hx hb dX0_write_40 rfl (lv_at hl 4 rfl) ?_
          refine o_sipush hx hb dX0_write_41 (by decide) ?_
          refine o_iand hx hb dX0_write_44 ?_
          refine o_call (nA := 2) (As := [.int (iI (X 2 (6 * pp + dd))), .int (iI ((iI vv &&& iI 255).toInt))]) (rest := []) E hW hl (xm_writeFile l D cI cZ h a X (X 2 (6 * pp + dd)) ((iI vv &&& iI 255).toInt) ⟨by omega, by omega⟩ (hB5 _ (by omega) (by omega)) (hB6 _ (by omega) (by omega)) hB9) (lw_V q141 q143 qs7 q21 q144) rfl (by decide +kernel) rfl ⟨Nat.le_of_ble_eq_true rfl, Nat.le_of_ble_eq_true rfl⟩ rfl (Nat.le_of_ble_eq_true rfl) ⟨Nat.le_of_ble_eq_true rfl, Nat.le_of_ble_eq_true rfl⟩ dX0_write_45 (fun z_45 X_45 H locs hq hW => ?_)
          have hq_45 := hq
          refine lv_goto (tgt := 67) hx hb dX0_write_48 (by decide) ?_
          exact o_ret (z := z_45) E hW dX0_write_67 (Or.inr (Or.inl ⟨by omega, by omega, hq_45⟩))
      · refine o_iconst hx hb dX0_write_24 ?_
        exact o_ret (z := (-1)) E hW dX0_write_25 (Or.inl ⟨by omega, rfl, rfl⟩)
  · refine lv_istore (lv' := [(4, .int (iI (-1))), (0, .ref h), (1, .int (iI pp)), (2, .int (iI dd)), (3, .int (iI vv))]) hx hb dX0_write_6 hl (by decide) rfl (fun ls hl => ?_)
    refine lv_iload hx hb dX0_write_8 (lv_at hl 0 rfl) ?_
    refine o_iflt (tgt := 24) hx hb dX0_write_10 (by decide) (by omega) (fun _ => ?_) (fun q => absurd q (by decide))
    refine o_iconst hx hb dX0_write_24 ?_
    exact o_ret (z := (-1)) E hW dX0_write_25 (Or.inl ⟨by omega, rfl, rfl⟩)
set_option maxHeartbeats 4000000 in
/-- read -/
theorem xm_read (l : Launch) (D : va_G) (cI cZ : ClassId) (h : Nat) (a : Nat → Nat) (X : oS) (pp : Int) (dd : Int) (hp : ii_r pp) (hd : ii_r dd) (hB1 : rg X 1 4 0 1) (hB2 : rg X 2 24 (-1) 23) (hB4 : rg X 4 24 0 3) (hB5 : rg X 5 24 0 27) (hB6 : rg X 6 24 0 8) (hB9 : rg X 9 28 0 8) (hB12 : rg X 12 24 0 1) (hB13 : rg X 13 24 0 5) (hB14 : rg X 14 24 0 6) (hB45 : hasD X pp dd → X 4 (X 2 (6 * pp + dd)) ≠ 1 → X 5 (X 2 (6 * pp + dd)) ≤ 23) : oC dX l yX0_read cX0_read 4 (some .int) 2 43 D cI cZ h a X [.int (iI pp), .int (iI dd)] (xq_read X pp dd) := by
  refine oC_of (own := RX0) (by decide) rfl (Nat.le_of_ble_eq_true rfl) rfl ?_
  intro p e s m below meth c ls A E hW hl
  have hx := E.1
  have hb := E.2.1
  have hl : lv_has ls 4 [(0, .ref h), (1, .int (iI pp)), (2, .int (iI dd))] := hl
  refine lv_aload_n hx hb dX0_read_0 rfl (lv_at hl 0 rfl) ?_
  refine lv_iload_n hx hb dX0_read_1 rfl (lv_at hl 1 rfl) ?_
  refine lv_iload_n hx hb dX0_read_2 rfl (lv_at hl 2 rfl) ?_
  refine o_call (nA := 2) (As := [.int (iI pp), .int (iI dd)]) (rest := []) E hW hl (xm_openingOf l D cI cZ h a X pp dd hp hd hB1 hB2) (lw_V q117 q119 qs5 q21 q120) rfl (by decide +kernel) rfl ⟨Nat.le_of_ble_eq_true rfl, Nat.le_of_ble_eq_true rfl⟩ rfl (Nat.le_of_ble_eq_true rfl) ⟨Nat.le_of_ble_eq_true rfl, Nat.le_of_ble_eq_true rfl⟩ dX0_read_3 (fun z_3 X_3 H locs hq hW => ?_)
  rcases hq with ⟨q_3, r_3, s_3, rfl, rfl⟩ | ⟨q_3, rfl, rfl⟩
  · have hO := hB2 (6 * pp + dd) (by omega) (by omega)
    refine lv_istore_n (lv' := [(3, .int (iI (X 2 (6 * pp + dd)))), (0, .ref h), (1, .int (iI pp)), (2, .int (iI dd))]) hx hb dX0_read_6 rfl hl (by decide) rfl (fun ls hl => ?_)
    refine lv_iload_n hx hb dX0_read_7 rfl (lv_at hl 0 rfl) ?_
    refine o_iflt (tgt := 21) hx hb dX0_read_8 (by decide) (by omega) (fun c_8 => ?_) (fun c_8 => ?_)
    · refine o_iconst hx hb dX0_read_21 ?_
      exact o_ret (z := (-1)) E hW dX0_read_22 (Or.inl ⟨by omega, rfl, rfl⟩)
    · refine lv_aload_n hx hb dX0_read_11 rfl (lv_at hl 1 rfl) ?_
      refine o_get E hW in_X0 rfl 4 (by decide) (v := .ref (a 4)) rfl q35 rfl dX0_read_12 ?_
      refine lv_iload_n hx hb dX0_read_15 rfl (lv_at hl 0 rfl) ?_
      have h_16 := hB4 (X 2 (6 * pp + dd)) (by omega) (by omega)
      refine o_ld E hW 4 ⟨by decide, rfl⟩ (by omega) (by omega) (by decide) (z := X 4 (X 2 (6 * pp + dd))) rfl dX0_read_16 ?_
      refine o_iconst hx hb dX0_read_17 ?_
      refine o_cne (tgt := 23) hx hb dX0_read_18 (by decide) (by omega) (by omega) (fun c_18 => ?_) (fun c_18 => ?_)
      · refine lv_aload_n hx hb dX0_read_23 rfl (lv_at hl 1 rfl) ?_
        refine o_get E hW in_X0 rfl 4 (by decide) (v := .ref (a 4)) rfl q35 rfl dX0_read_24 ?_
        refine lv_iload_n hx hb dX0_read_27 rfl (lv_at hl 0 rfl) ?_
        have h_28 := hB4 (X 2 (6 * pp + dd)) (by omega) (by omega)
        refine o_ld E hW 4 ⟨by decide, rfl⟩ (by omega) (by omega) (by decide) (z := X 4 (X 2 (6 * pp + dd))) rfl dX0_read_28 ?_
        refine o_iconst hx hb dX0_read_29 ?_
        refine o_cne (tgt := 41) hx hb dX0_read_30 (by decide) (by omega) (by omega) (fun c_30 => ?_) (fun c_30 => ?_)
        · refine lv_aload_n hx hb dX0_read_41 rfl (lv_at hl 1 rfl) ?_
          refine lv_aload_n hx hb dX0_read_42 rfl (lv_at hl 1 rfl) ?_
          refine o_get E hW in_X0 rfl 5 (by decide) (v := .ref (a 5)) rfl q36 rfl dX0_read_43 ?_
          refine lv_iload_n hx hb dX0_read_46 rfl (lv_at hl 0 rfl) ?_
          have h_47 := hB5 (X 2 (6 * pp + dd)) (by omega) (by omega)
          refine o_ld E hW 5 ⟨by decide, rfl⟩ (by omega) (by omega) (by decide) (z := X 5 (X 2 (6 * pp + dd))) rfl dX0_read_47 ?_
          have h45 := hB45 ⟨by omega, by omega, by omega, by omega⟩ (by omega)
          refine o_call (nA := 1) (As := [.int (iI (X 5 (X 2 (6 * pp + dd))))]) (rest := []) E hW hl (xm_readPipe l D cI cZ h a X (X 5 (X 2 (6 * pp + dd))) ⟨by omega, by omega⟩ hB12 hB13 hB14) (lw_V q157 q159 qs10 q21 q160) rfl (by decide +kernel) rfl ⟨Nat.le_of_ble_eq_true rfl, Nat.le_of_ble_eq_true rfl⟩ rfl (Nat.le_of_ble_eq_true rfl) ⟨Nat.le_of_ble_eq_true rfl, Nat.le_of_ble_eq_true rfl⟩ dX0_read_48 (fun z_48 X_48 H locs hq hW => ?_)
          have hq_48 := hq
          exact o_ret (z := z_48) E hW dX0_read_51 (Or.inr (Or.inr ⟨by omega, by omega, by omega, hq_48⟩))
        · refine lv_aload_n hx hb dX0_read_33 rfl (lv_at hl 1 rfl) ?_
          refine lv_iload_n hx hb dX0_read_34 rfl (lv_at hl 0 rfl) ?_
          refine o_call (nA := 1) (As := [.int (iI (X 2 (6 * pp + dd)))]) (rest := []) E hW hl (xm_readFile l D cI cZ h a X (X 2 (6 * pp + dd)) ⟨by omega, by omega⟩ (hB5 _ (by omega) (by omega)) (hB6 _ (by omega) (by omega)) hB9) (lw_V q153 q155 qs9 q21 q156) rfl (by decide +kernel) rfl ⟨Nat.le_of_ble_eq_true rfl, Nat.le_of_ble_eq_true rfl⟩ rfl (Nat.le_of_ble_eq_true rfl) ⟨Nat.le_of_ble_eq_true rfl, Nat.le_of_ble_eq_true rfl⟩ dX0_read_35 (fun z_35 X_35 H locs hq hW => ?_)
          have hq_35 := hq
          refine lv_goto (tgt := 51) hx hb dX0_read_38 (by decide) ?_
          exact o_ret (z := z_35) E hW dX0_read_51 (Or.inr (Or.inl ⟨by omega, by omega, hq_35⟩))
      · refine o_iconst hx hb dX0_read_21 ?_
        exact o_ret (z := (-1)) E hW dX0_read_22 (Or.inl ⟨by omega, rfl, rfl⟩)
  · refine lv_istore_n (lv' := [(3, .int (iI (-1))), (0, .ref h), (1, .int (iI pp)), (2, .int (iI dd))]) hx hb dX0_read_6 rfl hl (by decide) rfl (fun ls hl => ?_)
    refine lv_iload_n hx hb dX0_read_7 rfl (lv_at hl 0 rfl) ?_
    refine o_iflt (tgt := 21) hx hb dX0_read_8 (by decide) (by omega) (fun _ => ?_) (fun q => absurd q (by decide))
    refine o_iconst hx hb dX0_read_21 ?_
    exact o_ret (z := (-1)) E hW dX0_read_22 (Or.inl ⟨by omega, rfl, rfl⟩)
set_option maxHeartbeats 4000000 in
/-- seek -/
theorem xm_seek (l : Launch) (D : va_G) (cI cZ : ClassId) (h : Nat) (a : Nat → Nat) (X : oS) (pp : Int) (dd : Int) (ff : Int) (hp : ii_r pp) (hd : ii_r dd) (hB1 : rg X 1 4 0 1) (hB2 : rg X 2 24 (-1) 23) (hB4 : rg X 4 24 0 3) (hB5 : rg X 5 24 0 27) (hB6 : rg X 6 24 0 8) (hB9 : rg X 9 28 0 8) (hf : ii_r ff) : oC dX l yX0_seek cX0_seek 5 (some .int) 2 43 D cI cZ h a X [.int (iI pp), .int (iI dd), .int (iI ff)] (xq_seek X pp dd ff) := by
  refine oC_of (own := RX0) (by decide) rfl (Nat.le_of_ble_eq_true rfl) rfl ?_
  intro p e s m below meth c ls A E hW hl
  have hx := E.1
  have hb := E.2.1
  have hl : lv_has ls 5 [(0, .ref h), (1, .int (iI pp)), (2, .int (iI dd)), (3, .int (iI ff))] := hl
  refine lv_aload_n hx hb dX0_seek_0 rfl (lv_at hl 0 rfl) ?_
  refine lv_iload_n hx hb dX0_seek_1 rfl (lv_at hl 1 rfl) ?_
  refine lv_iload_n hx hb dX0_seek_2 rfl (lv_at hl 2 rfl) ?_
  refine o_call (nA := 2) (As := [.int (iI pp), .int (iI dd)]) (rest := []) E hW hl (xm_openingOf l D cI cZ h a X pp dd hp hd hB1 hB2) (lw_V q117 q119 qs5 q21 q120) rfl (by decide +kernel) rfl ⟨Nat.le_of_ble_eq_true rfl, Nat.le_of_ble_eq_true rfl⟩ rfl (Nat.le_of_ble_eq_true rfl) ⟨Nat.le_of_ble_eq_true rfl, Nat.le_of_ble_eq_true rfl⟩ dX0_seek_3 (fun z_3 X_3 H locs hq hW => ?_)
  rcases hq with ⟨q_3, r_3, s_3, rfl, rfl⟩ | ⟨q_3, rfl, rfl⟩
  · have hO := hB2 (6 * pp + dd) (by omega) (by omega)
    refine lv_istore (lv' := [(4, .int (iI (X 2 (6 * pp + dd)))), (0, .ref h), (1, .int (iI pp)), (2, .int (iI dd)), (3, .int (iI ff))]) hx hb dX0_seek_6 hl (by decide) rfl (fun ls hl => ?_)
    refine lv_iload hx hb dX0_seek_8 (lv_at hl 0 rfl) ?_
    refine o_iflt (tgt := 44) hx hb dX0_seek_10 (by decide) (by omega) (fun c_10 => ?_) (fun c_10 => ?_)
    · refine o_iconst hx hb dX0_seek_44 ?_
      exact o_ret (z := (-1)) E hW dX0_seek_45 (Or.inl ⟨by omega, rfl, rfl⟩)
    · refine lv_aload_n hx hb dX0_seek_13 rfl (lv_at hl 1 rfl) ?_
      refine o_get E hW in_X0 rfl 4 (by decide) (v := .ref (a 4)) rfl q35 rfl dX0_seek_14 ?_
      refine lv_iload hx hb dX0_seek_17 (lv_at hl 0 rfl) ?_
      have h_19 := hB4 (X 2 (6 * pp + dd)) (by omega) (by omega)
      refine o_ld E hW 4 ⟨by decide, rfl⟩ (by omega) (by omega) (by decide) (z := X 4 (X 2 (6 * pp + dd))) rfl dX0_seek_19 ?_
      refine o_iconst hx hb dX0_seek_20 ?_
      refine o_cne (tgt := 44) hx hb dX0_seek_21 (by decide) (by omega) (by omega) (fun c_21 => ?_) (fun c_21 => ?_)
      · refine o_iconst hx hb dX0_seek_44 ?_
        exact o_ret (z := (-1)) E hW dX0_seek_45 (Or.inl ⟨by omega, rfl, rfl⟩)
      · refine lv_iload_n hx hb dX0_seek_24 rfl (lv_at hl 4 rfl) ?_
        refine o_iflt (tgt := 44) hx hb dX0_seek_25 (by decide) (by omega) (fun c_25 => ?_) (fun c_25 => ?_)
        · refine o_iconst hx hb dX0_seek_44 ?_
          exact o_ret (z := (-1)) E hW dX0_seek_45 (Or.inl ⟨by omega, rfl, rfl⟩)
        · refine lv_iload_n hx hb dX0_seek_28 rfl (lv_at hl 4 rfl) ?_
          refine lv_aload_n hx hb dX0_seek_29 rfl (lv_at hl 1 rfl) ?_
          refine o_get E hW in_X0 rfl 9 (by decide) (v := .ref (a 9)) rfl q40 rfl dX0_seek_30 ?_
          refine lv_aload_n hx hb dX0_seek_33 rfl (lv_at hl 1 rfl) ?_
          refine o_get E hW in_X0 rfl 5 (by decide) (v := .ref (a 5)) rfl q36 rfl dX0_seek_34 ?_
          refine lv_iload hx hb dX0_seek_37 (lv_at hl 0 rfl) ?_
          have h_39 := hB5 (X 2 (6 * pp + dd)) (by omega) (by omega)
          refine o_ld E hW 5 ⟨by decide, rfl⟩ (by omega) (by omega) (by decide) (z := X 5 (X 2 (6 * pp + dd))) rfl dX0_seek_39 ?_
          have h_40 := hB9 (X 5 (X 2 (6 * pp + dd))) (by omega) (by omega)
          refine o_ld E hW 9 ⟨by decide, rfl⟩ (by omega) (by omega) (by decide) (z := X 9 (X 5 (X 2 (6 * pp + dd)))) rfl dX0_seek_40 ?_
          refine o_cle (tgt := 46) hx hb dX0_seek_41 (by decide) (by omega) (by omega) (fun c_41 => ?_) (fun c_41 => ?_)
          · refine lv_aload_n hx hb dX0_seek_46 rfl (lv_at hl 1 rfl) ?_
            refine o_get E hW in_X0 rfl 6 (by decide) (v := .ref (a 6)) rfl q37 rfl dX0_seek_47 ?_
            refine lv_iload hx hb dX0_seek_50 (lv_at hl 0 rfl) ?_
            refine lv_iload_n hx hb dX0_seek_52 rfl (lv_at hl 4 rfl) ?_
            refine o_st E hW 6 ⟨by decide, rfl⟩ (by omega) (by omega) (by decide) dX0_seek_53 (fun H locs hW => ?_)
            refine o_iconst hx hb dX0_seek_54 ?_
            exact o_ret (z := 0) E hW dX0_seek_55 (Or.inr ⟨by omega, rfl, rfl⟩)
          · refine o_iconst hx hb dX0_seek_44 ?_
            exact o_ret (z := (-1)) E hW dX0_seek_45 (Or.inl ⟨by omega, rfl, rfl⟩)
  · refine lv_istore (lv' := [(4, .int (iI (-1))), (0, .ref h), (1, .int (iI pp)), (2, .int (iI dd)), (3, .int (iI ff))]) hx hb dX0_seek_6 hl (by decide) rfl (fun ls hl => ?_)
    refine lv_iload hx hb dX0_seek_8 (lv_at hl 0 rfl) ?_
    refine o_iflt (tgt := 44) hx hb dX0_seek_10 (by decide) (by omega) (fun _ => ?_) (fun q => absurd q (by decide))
    refine o_iconst hx hb dX0_seek_44 ?_
    exact o_ret (z := (-1)) E hW dX0_seek_45 (Or.inl ⟨by omega, rfl, rfl⟩)
set_option maxHeartbeats 4000000 in
/-- link -/
theorem xm_link (l : Launch) (D : va_G) (cI cZ : ClassId) (h : Nat) (a : Nat → Nat) (X : oS) (n1 : Int) (n2 : Int) (hp : ii_r n1) (hd : ii_r n2) (hB7 : rg X 7 4 (-1) 27) : oC dX l yX0_link cX0_link 3 (some .int) 1 20 D cI cZ h a X [.int (iI n1), .int (iI n2)] (xq_link X n1 n2) := by
  refine oC_of (own := RX0) (by decide) rfl (Nat.le_of_ble_eq_true rfl) rfl ?_
  intro p e s m below meth c ls A E hW hl
  have hx := E.1
  have hb := E.2.1
  have hl : lv_has ls 3 [(0, .ref h), (1, .int (iI n1)), (2, .int (iI n2))] := hl
  refine lv_iload_n hx hb dX0_link_0 rfl (lv_at hl 1 rfl) ?_
  refine o_calls (nA := 1) (As := [.int (iI n1)]) (rest := []) E hW hl (xm_isName l n1 hp) (lw_S q90 q91 q21 q92) (by decide +kernel) rfl ⟨Nat.le_of_ble_eq_true rfl, Nat.le_of_ble_eq_true rfl⟩ rfl (Nat.le_of_ble_eq_true rfl) ⟨Nat.le_of_ble_eq_true rfl, Nat.le_of_ble_eq_true rfl⟩ dX0_link_1 (fun z_1 H locs hq hW => ?_)
  rcases hq with ⟨q_1, rfl⟩ | ⟨q_1, rfl⟩
  · refine o_ifeq (tgt := 32) hx hb dX0_link_4 (by decide) (by omega) (fun q => absurd q (by decide)) (fun _ => ?_)
    refine lv_iload_n hx hb dX0_link_7 rfl (lv_at hl 2 rfl) ?_
    refine o_calls (nA := 1) (As := [.int (iI n2)]) (rest := []) E hW hl (xm_isName l n2 hd) (lw_S q90 q91 q21 q92) (by decide +kernel) rfl ⟨Nat.le_of_ble_eq_true rfl, Nat.le_of_ble_eq_true rfl⟩ rfl (Nat.le_of_ble_eq_true rfl) ⟨Nat.le_of_ble_eq_true rfl, Nat.le_of_ble_eq_true rfl⟩ dX0_link_8 (fun z_8 H locs hq hW => ?_)
    rcases hq with ⟨q_8, rfl⟩ | ⟨q_8, rfl⟩
    · refine o_ifeq (tgt := 32) hx hb dX0_link_11 (by decide) (by omega) (fun q => absurd q (by decide)) (fun _ => ?_)
      refine lv_aload_n hx hb dX0_link_14 rfl (lv_at hl 0 rfl) ?_
      refine o_get E hW in_X0 rfl 7 (by decide) (v := .ref (a 7)) rfl q38 rfl dX0_link_15 ?_
      refine lv_iload_n hx hb dX0_link_18 rfl (lv_at hl 1 rfl) ?_
      have h_19 := hB7 n1 (by omega) (by omega)
      refine o_ld E hW 7 ⟨by decide, rfl⟩ (by omega) (by omega) (by decide) (z := X 7 n1) rfl dX0_link_19 ?_
      refine o_iflt (tgt := 32) hx hb dX0_link_20 (by decide) (by omega) (fun c_20 => ?_) (fun c_20 => ?_)
      · refine o_iconst hx hb dX0_link_32 ?_
        exact o_ret (z := (-1)) E hW dX0_link_33 (Or.inl ⟨by omega, rfl, rfl⟩)
      · refine lv_aload_n hx hb dX0_link_23 rfl (lv_at hl 0 rfl) ?_
        refine o_get E hW in_X0 rfl 7 (by decide) (v := .ref (a 7)) rfl q38 rfl dX0_link_24 ?_
        refine lv_iload_n hx hb dX0_link_27 rfl (lv_at hl 2 rfl) ?_
        have h_28 := hB7 n2 (by omega) (by omega)
        refine o_ld E hW 7 ⟨by decide, rfl⟩ (by omega) (by omega) (by decide) (z := X 7 n2) rfl dX0_link_28 ?_
        refine o_iflt (tgt := 34) hx hb dX0_link_29 (by decide) (by omega) (fun c_29 => ?_) (fun c_29 => ?_)
        · refine lv_aload_n hx hb dX0_link_34 rfl (lv_at hl 0 rfl) ?_
          refine o_get E hW in_X0 rfl 7 (by decide) (v := .ref (a 7)) rfl q38 rfl dX0_link_35 ?_
          refine lv_iload_n hx hb dX0_link_38 rfl (lv_at hl 2 rfl) ?_
          refine lv_aload_n hx hb dX0_link_39 rfl (lv_at hl 0 rfl) ?_
          refine o_get E hW in_X0 rfl 7 (by decide) (v := .ref (a 7)) rfl q38 rfl dX0_link_40 ?_
          refine lv_iload_n hx hb dX0_link_43 rfl (lv_at hl 1 rfl) ?_
          have h_44 := hB7 n1 (by omega) (by omega)
          refine o_ld E hW 7 ⟨by decide, rfl⟩ (by omega) (by omega) (by decide) (z := X 7 n1) rfl dX0_link_44 ?_
          refine o_st E hW 7 ⟨by decide, rfl⟩ (by omega) (by omega) (by decide) dX0_link_45 (fun H locs hW => ?_)
          refine lv_aload_n hx hb dX0_link_46 rfl (lv_at hl 0 rfl) ?_
          refine o_get E hW in_X0 rfl 8 (by decide) (v := .ref (a 8)) rfl q39 rfl dX0_link_47 ?_
          refine lv_aload_n hx hb dX0_link_50 rfl (lv_at hl 0 rfl) ?_
          refine o_get E hW in_X0 rfl 7 (by decide) (v := .ref (a 7)) rfl q38 rfl dX0_link_51 ?_
          refine lv_iload_n hx hb dX0_link_54 rfl (lv_at hl 2 rfl) ?_
          have h_55 := hB7 n2 (by omega) (by omega)
          refine o_ld E hW 7 ⟨by decide, rfl⟩ (by omega) (by omega) (by decide) (z := X 7 n1) (su_s) dX0_link_55 ?_
          refine lv_dup2_11 hx hb dX0_link_56 rfl rfl ?_
          refine o_ld E hW 8 ⟨by decide, rfl⟩ (by omega) (by omega) (by decide) (z := X 8 (X 7 n1)) (su_k (by decide)) dX0_link_57 ?_
          refine o_iconst hx hb dX0_link_58 ?_
          refine o_iadd hx hb dX0_link_59 ?_
          refine o_st E hW 8 ⟨by decide, rfl⟩ (by omega) (by omega) (by decide) dX0_link_60 (fun H locs hW => ?_)
          refine o_iconst hx hb dX0_link_61 ?_
          exact o_ret (z := 0) E hW dX0_link_62 (Or.inr ⟨by omega, rfl, rfl⟩)
        · refine o_iconst hx hb dX0_link_32 ?_
          exact o_ret (z := (-1)) E hW dX0_link_33 (Or.inl ⟨by omega, rfl, rfl⟩)
    · refine o_ifeq (tgt := 32) hx hb dX0_link_11 (by decide) (by omega) (fun _ => ?_) (fun q => absurd q (by decide))
      refine o_iconst hx hb dX0_link_32 ?_
      exact o_ret (z := (-1)) E hW dX0_link_33 (Or.inl ⟨by omega, rfl, rfl⟩)
  · refine o_ifeq (tgt := 32) hx hb dX0_link_4 (by decide) (by omega) (fun _ => ?_) (fun q => absurd q (by decide))
    refine o_iconst hx hb dX0_link_32 ?_
    exact o_ret (z := (-1)) E hW dX0_link_33 (Or.inl ⟨by omega, rfl, rfl⟩)
set_option maxHeartbeats 4000000 in
/-- unlink -/
theorem xm_unlink (l : Launch) (D : va_G) (cI cZ : ClassId) (h : Nat) (a : Nat → Nat) (X : oS) (nn : Int) (hp : ii_r nn) (hB7 : rg X 7 4 (-1) 27) : oC dX l yX0_unlink cX0_unlink 2 (some .int) 1 20 D cI cZ h a X [.int (iI nn)] (xq_unlink X nn) := by
  refine oC_of (own := RX0) (by decide) rfl (Nat.le_of_ble_eq_true rfl) rfl ?_
  intro p e s m below meth c ls A E hW hl
  have hx := E.1
  have hb := E.2.1
  have hl : lv_has ls 2 [(0, .ref h), (1, .int (iI nn))] := hl
  refine lv_iload_n hx hb dX0_unlink_0 rfl (lv_at hl 1 rfl) ?_
  refine o_calls (nA := 1) (As := [.int (iI nn)]) (rest := []) E hW hl (xm_isName l nn hp) (lw_S q90 q91 q21 q92) (by decide +kernel) rfl ⟨Nat.le_of_ble_eq_true rfl, Nat.le_of_ble_eq_true rfl⟩ rfl (Nat.le_of_ble_eq_true rfl) ⟨Nat.le_of_ble_eq_true rfl, Nat.le_of_ble_eq_true rfl⟩ dX0_unlink_1 (fun z_1 H locs hq hW => ?_)
  rcases hq with ⟨q_1, rfl⟩ | ⟨q_1, rfl⟩
  · refine o_ifeq (tgt := 16) hx hb dX0_unlink_4 (by decide) (by omega) (fun q => absurd q (by decide)) (fun _ => ?_)
    refine lv_aload_n hx hb dX0_unlink_7 rfl (lv_at hl 0 rfl) ?_
    refine o_get E hW in_X0 rfl 7 (by decide) (v := .ref (a 7)) rfl q38 rfl dX0_unlink_8 ?_
    refine lv_iload_n hx hb dX0_unlink_11 rfl (lv_at hl 1 rfl) ?_
    have h_12 := hB7 nn (by omega) (by omega)
    refine o_ld E hW 7 ⟨by decide, rfl⟩ (by omega) (by omega) (by decide) (z := X 7 nn) rfl dX0_unlink_12 ?_
    refine o_ifge (tgt := 18) hx hb dX0_unlink_13 (by decide) (by omega) (fun c_13 => ?_) (fun c_13 => ?_)
    · refine lv_aload_n hx hb dX0_unlink_18 rfl (lv_at hl 0 rfl) ?_
      refine o_get E hW in_X0 rfl 8 (by decide) (v := .ref (a 8)) rfl q39 rfl dX0_unlink_19 ?_
      refine lv_aload_n hx hb dX0_unlink_22 rfl (lv_at hl 0 rfl) ?_
      refine o_get E hW in_X0 rfl 7 (by decide) (v := .ref (a 7)) rfl q38 rfl dX0_unlink_23 ?_
      refine lv_iload_n hx hb dX0_unlink_26 rfl (lv_at hl 1 rfl) ?_
      have h_27 := hB7 nn (by omega) (by omega)
      refine o_ld E hW 7 ⟨by decide, rfl⟩ (by omega) (by omega) (by decide) (z := X 7 nn) rfl dX0_unlink_27 ?_
      refine lv_dup2_11 hx hb dX0_unlink_28 rfl rfl ?_
      refine o_ld E hW 8 ⟨by decide, rfl⟩ (by omega) (by omega) (by decide) (z := X 8 (X 7 nn)) rfl dX0_unlink_29 ?_
      refine o_iconst hx hb dX0_unlink_30 ?_
      refine o_isub hx hb dX0_unlink_31 ?_
      refine o_st E hW 8 ⟨by decide, rfl⟩ (by omega) (by omega) (by decide) dX0_unlink_32 (fun H locs hW => ?_)
      refine lv_aload_n hx hb dX0_unlink_33 rfl (lv_at hl 0 rfl) ?_
      refine o_get E hW in_X0 rfl 7 (by decide) (v := .ref (a 7)) rfl q38 rfl dX0_unlink_34 ?_
      refine lv_iload_n hx hb dX0_unlink_37 rfl (lv_at hl 1 rfl) ?_
      refine o_iconst hx hb dX0_unlink_38 ?_
      refine o_st E hW 7 ⟨by decide, rfl⟩ (by omega) (by omega) (by decide) dX0_unlink_39 (fun H locs hW => ?_)
      refine o_iconst hx hb dX0_unlink_40 ?_
      exact o_ret (z := 0) E hW dX0_unlink_41 (Or.inr ⟨by omega, rfl, rfl⟩)
    · refine o_iconst hx hb dX0_unlink_16 ?_
      exact o_ret (z := (-1)) E hW dX0_unlink_17 (Or.inl ⟨by omega, rfl, rfl⟩)
  · refine o_ifeq (tgt := 16) hx hb dX0_unlink_4 (by decide) (by omega) (fun _ => ?_) (fun q => absurd q (by decide))
    refine o_iconst hx hb dX0_unlink_16 ?_
    exact o_ret (z := (-1)) E hW dX0_unlink_17 (Or.inl ⟨by omega, rfl, rfl⟩)
end
section
/-! DescriptorTable: fork, exit, counts -/
set_option maxRecDepth 100000
/-- how many of 0 .. n-1 have P -/
noncomputable def cp (P : Int → Prop) : Nat → Int
  | 0 => 0
  | n + 1 => cp P n + @ite Int (P (n : Int)) (Classical.propDecidable _) 1 0
theorem cp_sy {P : Int → Prop} {n : Nat} (h : P (n : Int)) : cp P (n + 1) = cp P n + 1 := by
  show cp P n + _ = _
  rw [if_pos h]
theorem cp_sn {P : Int → Prop} {n : Nat} (h : ¬ P (n : Int)) : cp P (n + 1) = cp P n := by
  show cp P n + _ = _
  rw [if_neg h]; omega
theorem cp_y {P : Int → Prop} {i n : Int} (hi : 0 ≤ i) (hn : n = cp P i.toNat) (h : P i) : n + 1 = cp P (i + 1).toNat := by
  rw [show (i + 1).toNat = i.toNat + 1 by omega, cp_sy (by rw [Int.toNat_of_nonneg hi]; exact h), hn]
theorem cp_n {P : Int → Prop} {i n : Int} (hi : 0 ≤ i) (hn : n = cp P i.toNat) (h : ¬ P i) : n = cp P (i + 1).toNat := by
  rw [show (i + 1).toNat = i.toNat + 1 by omega, cp_sn (by rw [Int.toNat_of_nonneg hi]; exact h), hn]
theorem cp_n0 {P : Int → Prop} {i n : Int} (hi : 0 ≤ i) (hn : n = cp P i.toNat) (h : ¬ P i) : n + 0 = cp P (i + 1).toNat := by
  rw [Int.add_zero]; exact cp_n hi hn h
/-- fork: d descriptors of pp are copied to c -/
def fkI (X : oS) (pp c d : Int) (Y : oS) : Prop := (∀ (k : Nat) (i : Int), k ≠ 2 → k ≠ 3 → Y k i = X k i) ∧ (∀ i : Int, Y 2 i = if 6 * c ≤ i ∧ i < 6 * c + d then X 2 (6 * pp + (i - 6 * c)) else X 2 i) ∧ ∀ o : Int, 0 ≤ o → Y 3 o = X 3 o + cp (fun j => X 2 (6 * pp + j) = o) d.toNat
theorem fk_0 {X : oS} {pp c : Int} : fkI X pp c 0 X := ⟨fun _ _ _ _ => rfl, fun i => by rw [if_neg (by omega)], fun o _ => by show _ = _ + cp _ 0; show _ = _ + 0; omega⟩
theorem fk_rd {X Y : oS} {pp c d : Int} (h : fkI X pp c d Y) (h0 : 0 ≤ d) (h1 : d < 6) : Y 2 (6 * pp + d) = X 2 (6 * pp + d) := by
  rw [h.2.1, if_neg (by omega)]
theorem fk_n {X Y : oS} {pp c d : Int} (h : fkI X pp c d Y) (h0 : 0 ≤ d) (h1 : d < 6) (hn : Y 2 (6 * pp + d) < 0) : fkI X pp c (d + 1) (su Y 2 (6 * c + d) (Y 2 (6 * pp + d))) := by
  have e := fk_rd h h0 h1
  refine ⟨fun k i k2 k3 => by rw [su_k k2]; exact h.1 k i k2 k3, fun i => ?_, fun o ho => ?_⟩
  · by_cases g : i = 6 * c + d
    · subst g
      rw [su_s, if_pos (by omega), e]
      congr 1; omega
    · rw [su_n g, h.2.1]
      by_cases g2 : 6 * c ≤ i ∧ i < 6 * c + d
      · rw [if_pos g2, if_pos (by omega)]
      · rw [if_neg g2, if_neg (by omega)]
  · rw [su_k (by decide), h.2.2 o ho, ← cp_n (i := d) (n := cp (fun j => X 2 (6 * pp + j) = o) d.toNat) h0 rfl (by omega)]
theorem fk_y {X Y : oS} {pp c d : Int} (h : fkI X pp c d Y) (h0 : 0 ≤ d) (h1 : d < 6) (hn : 0 ≤ Y 2 (6 * pp + d)) : fkI X pp c (d + 1) (su (su Y 2 (6 * c + d) (Y 2 (6 * pp + d))) 3 (Y 2 (6 * pp + d)) (Y 3 (Y 2 (6 * pp + d)) + 1)) := by
  have e := fk_rd h h0 h1
  refine ⟨fun k i k2 k3 => by rw [su_k k3, su_k k2]; exact h.1 k i k2 k3, fun i => ?_, fun o ho => ?_⟩
  · rw [su_k (by decide)]
    by_cases g : i = 6 * c + d
    · subst g
      rw [su_s, if_pos (by omega), e]
      congr 1; omega
    · rw [su_n g, h.2.1]
      by_cases g2 : 6 * c ≤ i ∧ i < 6 * c + d
      · rw [if_pos g2, if_pos (by omega)]
      · rw [if_neg g2, if_neg (by omega)]
  · by_cases g : o = Y 2 (6 * pp + d)
    · rw [g, su_s, h.2.2 _ hn, ← cp_y (i := d) (n := cp (fun j => X 2 (6 * pp + j) = Y 2 (6 * pp + d)) d.toNat) h0 rfl (by omega)]
      omega
    · rw [su_n g, su_k (by decide), h.2.2 o ho, ← cp_n (i := d) (n := cp (fun j => X 2 (6 * pp + j) = o) d.toNat) h0 rfl (by omega)]
abbrev xq_fork (X : oS) (pp : Int) : Int → oS → Prop := fun z u =>
  (¬ al X pp ∧ z = -1 ∧ X = u) ∨ (al X pp ∧ X 0 0 = 4 ∧ z = -2 ∧ X = u) ∨
  (al X pp ∧ X 0 0 ≠ 4 ∧ lz (fun j => X 1 j = 0) 4 z ∧ fkI (su (su X 1 z 1) 0 0 (X 0 0 + 1)) pp z 6 u)
/-- exit: n descriptors of pp are let go -/
def ex (X : oS) (pp : Int) : Nat → oS
  | 0 => X
  | n + 1 => if 0 ≤ ex X pp n 2 (6 * pp + (n : Int)) then lg (su (ex X pp n) 2 (6 * pp + (n : Int)) (-1)) (ex X pp n 2 (6 * pp + (n : Int))) else ex X pp n
theorem ex_y {X Y : oS} {pp d : Int} (hY : Y = ex X pp d.toNat) (h0 : 0 ≤ d) (hn : 0 ≤ Y 2 (6 * pp + d)) : lg (su Y 2 (6 * pp + d) (-1)) (Y 2 (6 * pp + d)) = ex X pp (d + 1).toNat := by
  rw [show (d + 1).toNat = d.toNat + 1 by omega, ex, ← hY, Int.toNat_of_nonneg h0, if_pos hn]
theorem ex_n {X Y : oS} {pp d : Int} (hY : Y = ex X pp d.toNat) (h0 : 0 ≤ d) (hn : Y 2 (6 * pp + d) < 0) : Y = ex X pp (d + 1).toNat := by
  rw [show (d + 1).toNat = d.toNat + 1 by omega, ex, ← hY, Int.toNat_of_nonneg h0, if_neg (by omega)]
abbrev exB (Y : oS) : Prop := rg Y 2 24 (-1) 23 ∧ rg Y 3 24 0 24 ∧ rg Y 4 24 0 3 ∧ rg Y 5 24 0 27 ∧ ∀ i, 0 ≤ i → i < 24 → Y 4 i ≠ 1 → Y 5 i ≤ 23
abbrev xq_exit (X : oS) (pp : Int) : Int → oS → Prop := fun z u =>
  (¬ (al X pp ∧ X 0 0 ≠ 1) ∧ z = -1 ∧ X = u) ∨ ((al X pp ∧ X 0 0 ≠ 1) ∧ z = 0 ∧ u = su (su (ex X pp 6) 1 pp 0) 0 0 (ex X pp 6 0 0 - 1))
abbrev xq_counts (X : oS) : Int → oS → Prop := fun z u =>
  z = 100 * cp (fun o => 0 < X 3 o) 24 + 10 * cp (fun f => 0 < X 8 f) 28 + cp (fun q => X 11 q ≠ 0 ∨ X 12 q ≠ 0) 24 ∧ X = u
set_option maxHeartbeats 4000000 in
/-- fork -/
theorem xm_fork (l : Launch) (D : va_G) (cI cZ : ClassId) (h : Nat) (a : Nat → Nat) (X : oS) (pp : Int) (hp : ii_r pp) (h0 : 0 ≤ X 0 0 ∧ X 0 0 ≤ 4) (hB1 : rg X 1 4 0 1) (hB2 : rg X 2 24 (-1) 23) : oC dX l yX0_fork cX0_fork 5 (some .int) 1 21 D cI cZ h a X [.int (iI pp)] (xq_fork X pp) := by
  refine oC_of (own := RX0) (by decide) rfl (Nat.le_of_ble_eq_true rfl) rfl ?_
  intro p e s m below meth c ls A E hW hl
  have hx := E.1
  have hb := E.2.1
  have hl : lv_has ls 5 [(0, .ref h), (1, .int (iI pp))] := hl
  refine lv_aload_n hx hb dX0_fork_0 rfl (lv_at hl 0 rfl) ?_
  refine lv_iload_n hx hb dX0_fork_1 rfl (lv_at hl 1 rfl) ?_
  refine o_call (nA := 1) (As := [.int (iI pp)]) (rest := []) E hW hl (xm_isAlive l D cI cZ h a X pp hp hB1) (lw_V q86 q88 qs0 q21 q89) rfl (by decide +kernel) rfl ⟨Nat.le_of_ble_eq_true rfl, Nat.le_of_ble_eq_true rfl⟩ rfl (Nat.le_of_ble_eq_true rfl) ⟨Nat.le_of_ble_eq_true rfl, Nat.le_of_ble_eq_true rfl⟩ dX0_fork_2 (fun z_2 X_2 H locs hq hW => ?_)
  rcases hq with ⟨q_2, rfl, rfl⟩ | ⟨q_2, rfl, rfl⟩
  · refine o_ifne (tgt := 10) hx hb dX0_fork_5 (by decide) (by omega) (fun _ => ?_) (fun q => absurd q (by decide))
    refine lv_aload_n hx hb dX0_fork_10 rfl (lv_at hl 0 rfl) ?_
    refine o_get E hW in_X0 rfl 0 (by decide) (v := .int (iI (X 0 0))) rfl q31 rfl dX0_fork_11 ?_
    refine o_iconst hx hb dX0_fork_14 ?_
    refine o_cne (tgt := 21) hx hb dX0_fork_15 (by decide) (by omega) (by omega) (fun c_15 => ?_) (fun c_15 => ?_)
    · refine o_iconst hx hb dX0_fork_21 ?_
      refine lv_istore_n (lv' := [(2, .int (iI 0)), (0, .ref h), (1, .int (iI pp))]) hx hb dX0_fork_22 rfl hl (by decide) rfl (fun ls hl => ?_)
      refine o_iconst hx hb dX0_fork_23 ?_
      refine lv_istore_n (lv' := [(3, .int (iI 3)), (2, .int (iI 0)), (0, .ref h), (1, .int (iI pp))]) hx hb dX0_fork_24 rfl hl (by decide) rfl (fun ls hl => ?_)
      have lp_25 : ∀ (n : Nat) (f : Int) (i : Int)  (H : Heap) (locs : List Loc) (ls : Array Slot), i + 1 < (n : Int) → (-1 ≤ i ∧ i ≤ 3) → (lzi (fun j => X 1 j = 0) 4 i f) → mW dX D cI cZ h a A s X H locs → lv_has ls 5 [(0, .ref h), (1, .int (iI pp)), (2, .int (iI f)), (3, .int (iI i))] → W p l e ({ frames := 1, cells := 0, slots := 0, locals := 21 }) s m (Value.ref h :: [.int (iI pp)]).toArray below meth c H locs 0 0 (MQ below (oQc dX D cI cZ h a A (xq_fork X pp)) (Value.ref h :: [.int (iI pp)]).toArray s 0 0 A) (F0 m 25 ls []) := by
        intro n
        induction n with
        | zero =>
          intro f i H locs ls hn hi hI hW hl
          exfalso
          omega
        | succ n ih =>
          intro f i H locs ls hn hi hI hW hl
          have hr := lzi_r hI (by omega) (by omega)
          refine lv_iload_n hx hb dX0_fork_25 rfl (lv_at hl 3 rfl) ?_
          refine o_iflt (tgt := 50) hx hb dX0_fork_26 (by decide) (by omega) (fun c_26 => ?_) (fun c_26 => ?_)
          · refine lv_aload_n hx hb dX0_fork_50 rfl (lv_at hl 0 rfl) ?_
            refine o_get E hW in_X0 rfl 1 (by decide) (v := .ref (a 1)) rfl q32 rfl dX0_fork_51 ?_
            refine lv_iload_n hx hb dX0_fork_54 rfl (lv_at hl 2 rfl) ?_
            refine o_iconst hx hb dX0_fork_55 ?_
            refine o_zst E hW 1 ⟨by decide, rfl⟩ (by omega) (by omega) (by decide) (by decide) dX0_fork_56 (fun H locs hW => ?_)
            refine lv_aload_n hx hb dX0_fork_57 rfl (lv_at hl 0 rfl) ?_
            refine lv_dup hx hb dX0_fork_58 rfl ?_
            refine o_get E hW in_X0 rfl 0 (by decide) (v := .int (iI (X 0 0))) rfl q31 rfl dX0_fork_59 ?_
            refine o_iconst hx hb dX0_fork_62 ?_
            refine o_iadd hx hb dX0_fork_63 ?_
            refine x_putL E hW q31 dX0_fork_64 (fun H locs hW => ?_)
            refine o_iconst hx hb dX0_fork_67 ?_
            refine lv_istore_n (lv' := [(3, .int (iI 0)), (0, .ref h), (1, .int (iI pp)), (2, .int (iI f))]) hx hb dX0_fork_68 rfl hl (by decide) rfl (fun ls hl => ?_)
            have lp_69 : ∀ (n : Nat) (d : Int)  (Y : oS) (H : Heap) (locs : List Loc) (ls : Array Slot), 6 - d < (n : Int) → (0 ≤ d ∧ d ≤ 6) → (fkI (su (su X 1 f 1) 0 0 (X 0 0 + 1)) pp f d Y) → mW dX D cI cZ h a A s Y H locs → lv_has ls 5 [(0, .ref h), (1, .int (iI pp)), (2, .int (iI f)), (3, .int (iI d))] → W p l e ({ frames := 1, cells := 0, slots := 0, locals := 21 }) s m (Value.ref h :: [.int (iI pp)]).toArray below meth c H locs 0 0 (MQ below (oQc dX D cI cZ h a A (xq_fork X pp)) (Value.ref h :: [.int (iI pp)]).toArray s 0 0 A) (F0 m 69 ls []) := by
              intro n
              induction n with
              | zero =>
                intro d Y H locs ls hn hd hY hW hl
                exfalso
                omega
              | succ n ih =>
                intro d Y H locs ls hn hd hY hW hl
                refine lv_iload_n hx hb dX0_fork_69 rfl (lv_at hl 3 rfl) ?_
                refine o_bipush hx hb dX0_fork_70 (by decide) ?_
                refine o_cge (tgt := 123) hx hb dX0_fork_72 (by decide) (by omega) (by omega) (fun c_72 => ?_) (fun c_72 => ?_)
                · refine lv_iload_n hx hb dX0_fork_123 rfl (lv_at hl 2 rfl) ?_
                  exact o_ret (z := f) E hW dX0_fork_124 (Or.inr (Or.inr ⟨by omega, by omega, lzi_e hI (by omega), by rw [show d = 6 by omega] at hY; exact hY⟩))
                · have hO := fk_rd hY (by omega) (by omega)
                  rw [su_k (by decide), su_k (by decide)] at hO
                  have hb2 := hB2 (6 * pp + d) (by omega) (by omega)
                  refine lv_aload_n hx hb dX0_fork_75 rfl (lv_at hl 0 rfl) ?_
                  refine o_get E hW in_X0 rfl 2 (by decide) (v := .ref (a 2)) rfl q33 rfl dX0_fork_76 ?_
                  refine o_bipush hx hb dX0_fork_79 (by decide) ?_
                  refine lv_iload_n hx hb dX0_fork_81 rfl (lv_at hl 1 rfl) ?_
                  refine o_imul hx hb dX0_fork_82 ?_
                  refine lv_iload_n hx hb dX0_fork_83 rfl (lv_at hl 3 rfl) ?_
                  refine o_iadd hx hb dX0_fork_84 ?_
                  refine o_ld E hW 2 ⟨by decide, rfl⟩ (by omega) (by omega) (by decide) (z := Y 2 ((6 * pp) + d)) rfl dX0_fork_85 ?_
                  refine lv_istore (lv' := [(4, .int (iI (Y 2 ((6 * pp) + d)))), (0, .ref h), (1, .int (iI pp)), (2, .int (iI f)), (3, .int (iI d))]) hx hb dX0_fork_86 hl (by decide) rfl (fun ls hl => ?_)
                  refine lv_aload_n hx hb dX0_fork_88 rfl (lv_at hl 1 rfl) ?_
                  refine o_get E hW in_X0 rfl 2 (by decide) (v := .ref (a 2)) rfl q33 rfl dX0_fork_89 ?_
                  refine o_bipush hx hb dX0_fork_92 (by decide) ?_
                  refine lv_iload_n hx hb dX0_fork_94 rfl (lv_at hl 3 rfl) ?_
                  refine o_imul hx hb dX0_fork_95 ?_
                  refine lv_iload_n hx hb dX0_fork_96 rfl (lv_at hl 4 rfl) ?_
                  refine o_iadd hx hb dX0_fork_97 ?_
                  refine lv_iload hx hb dX0_fork_98 (lv_at hl 0 rfl) ?_
                  refine o_st E hW 2 ⟨by decide, rfl⟩ (by omega) (by omega) (by decide) dX0_fork_100 (fun H locs hW => ?_)
                  refine lv_iload hx hb dX0_fork_101 (lv_at hl 0 rfl) ?_
                  refine o_iflt (tgt := 117) hx hb dX0_fork_103 (by decide) (by omega) (fun c_103 => ?_) (fun c_103 => ?_)
                  · refine o_iinc (lv' := [(3, .int (iI (d + 1))), (4, .int (iI (Y 2 ((6 * pp) + d)))), (0, .ref h), (1, .int (iI pp)), (2, .int (iI f))]) hx hb dX0_fork_117 hl (k := 4) rfl (by decide) rfl (fun ls hl => ?_)
                    refine lv_goto (tgt := 69) hx hb dX0_fork_120 (by decide) ?_
                    exact ih (d + 1)  (su Y 2 ((6 * f) + d) (Y 2 ((6 * pp) + d))) _ _ _ (by omega) ⟨by omega, by omega⟩ (fk_n hY (by omega) (by omega) (by omega)) hW (lv_sub hl [2, 3, 4, 0] rfl)
                  · refine lv_aload_n hx hb dX0_fork_106 rfl (lv_at hl 1 rfl) ?_
                    refine o_get E hW in_X0 rfl 3 (by decide) (v := .ref (a 3)) rfl q34 rfl dX0_fork_107 ?_
                    refine lv_iload hx hb dX0_fork_110 (lv_at hl 0 rfl) ?_
                    refine lv_dup2_11 hx hb dX0_fork_112 rfl rfl ?_
                    refine o_ld E hW 3 ⟨by decide, rfl⟩ (by omega) (by omega) (by decide) (z := Y 3 (Y 2 ((6 * pp) + d))) (su_k (by decide)) dX0_fork_113 ?_
                    refine o_iconst hx hb dX0_fork_114 ?_
                    refine o_iadd hx hb dX0_fork_115 ?_
                    refine o_st E hW 3 ⟨by decide, rfl⟩ (by omega) (by omega) (by decide) dX0_fork_116 (fun H locs hW => ?_)
                    refine o_iinc (lv' := [(3, .int (iI (d + 1))), (4, .int (iI (Y 2 ((6 * pp) + d)))), (0, .ref h), (1, .int (iI pp)), (2, .int (iI f))]) hx hb dX0_fork_117 hl (k := 4) rfl (by decide) rfl (fun ls hl => ?_)
                    refine lv_goto (tgt := 69) hx hb dX0_fork_120 (by decide) ?_
                    exact ih (d + 1)  (su (su Y 2 ((6 * f) + d) (Y 2 ((6 * pp) + d))) 3 (Y 2 ((6 * pp) + d)) ((Y 3 (Y 2 ((6 * pp) + d))) + 1)) _ _ _ (by omega) ⟨by omega, by omega⟩ (fk_y hY (by omega) (by omega) (by omega)) hW (lv_sub hl [2, 3, 4, 0] rfl)
            exact lp_69 7 0  (su (su X 1 f 1) 0 0 ((X 0 0) + 1)) _ _ _ (by omega) ⟨by omega, by omega⟩ fk_0 hW (lv_sub hl [1, 2, 3, 0] rfl)
          · refine lv_aload_n hx hb dX0_fork_29 rfl (lv_at hl 0 rfl) ?_
            refine o_get E hW in_X0 rfl 1 (by decide) (v := .ref (a 1)) rfl q32 rfl dX0_fork_30 ?_
            refine lv_iload_n hx hb dX0_fork_33 rfl (lv_at hl 3 rfl) ?_
            have h_34 := hB1 i (by omega) (by omega)
            refine o_zld E hW 1 ⟨by decide, rfl⟩ (by omega) (by omega) (by decide) (z := X 1 i) rfl dX0_fork_34 ?_
            refine o_ifeq (tgt := 42) hx hb dX0_fork_35 (by decide) (by omega) (fun c_35 => ?_) (fun c_35 => ?_)
            · refine lv_iload_n hx hb dX0_fork_42 rfl (lv_at hl 3 rfl) ?_
              refine lv_istore_n (lv' := [(2, .int (iI i)), (0, .ref h), (1, .int (iI pp)), (3, .int (iI i))]) hx hb dX0_fork_43 rfl hl (by decide) rfl (fun ls hl => ?_)
              refine o_iinc (lv' := [(3, .int (iI (i + (-1)))), (2, .int (iI i)), (0, .ref h), (1, .int (iI pp))]) hx hb dX0_fork_44 hl (k := 3) rfl (by decide) rfl (fun ls hl => ?_)
              refine lv_goto (tgt := 25) hx hb dX0_fork_47 (by decide) ?_
              exact ih i (i + (-1))  _ _ _ (by omega) ⟨by omega, by omega⟩ (lzi_y (by omega) (by omega)) hW (lv_sub hl [2, 3, 1, 0] rfl)
            · refine lv_iload_n hx hb dX0_fork_38 rfl (lv_at hl 2 rfl) ?_
              refine lv_goto (tgt := 43) hx hb dX0_fork_39 (by decide) ?_
              refine lv_istore_n (lv' := [(2, .int (iI f)), (0, .ref h), (1, .int (iI pp)), (3, .int (iI i))]) hx hb dX0_fork_43 rfl hl (by decide) rfl (fun ls hl => ?_)
              refine o_iinc (lv' := [(3, .int (iI (i + (-1)))), (2, .int (iI f)), (0, .ref h), (1, .int (iI pp))]) hx hb dX0_fork_44 hl (k := 3) rfl (by decide) rfl (fun ls hl => ?_)
              refine lv_goto (tgt := 25) hx hb dX0_fork_47 (by decide) ?_
              exact ih f (i + (-1))  _ _ _ (by omega) ⟨by omega, by omega⟩ (lzi_n hI (by omega)) hW (lv_sub hl [2, 3, 1, 0] rfl)
      exact lp_25 5 0 3  _ _ _ (by omega) ⟨by omega, by omega⟩ (lzi_0 (by omega)) hW (lv_sub hl [2, 3, 1, 0] rfl)
    · refine o_bipush hx hb dX0_fork_18 (by decide) ?_
      exact o_ret (z := (-2)) E hW dX0_fork_20 (Or.inr (Or.inl ⟨by omega, by omega, rfl, rfl⟩))
  · refine o_ifne (tgt := 10) hx hb dX0_fork_5 (by decide) (by omega) (fun q => absurd q (by decide)) (fun _ => ?_)
    refine o_iconst hx hb dX0_fork_8 ?_
    exact o_ret (z := (-1)) E hW dX0_fork_9 (Or.inl ⟨by omega, rfl, rfl⟩)
set_option maxHeartbeats 4000000 in
/-- exit -/
theorem xm_exit (l : Launch) (D : va_G) (cI cZ : ClassId) (h : Nat) (a : Nat → Nat) (X : oS) (pp : Int) (hp : ii_r pp) (h0 : 0 ≤ X 0 0 ∧ X 0 0 ≤ 4) (hB1 : rg X 1 4 0 1) (hE : al X pp → ∀ n : Nat, n < 6 → exB (ex X pp n)) : oC dX l yX0_exit cX0_exit 4 (some .int) 1 21 D cI cZ h a X [.int (iI pp)] (xq_exit X pp) := by
  refine oC_of (own := RX0) (by decide) rfl (Nat.le_of_ble_eq_true rfl) rfl ?_
  intro p e s m below meth c ls A E hW hl
  have hx := E.1
  have hb := E.2.1
  have hl : lv_has ls 4 [(0, .ref h), (1, .int (iI pp))] := hl
  refine lv_aload_n hx hb dX0_exit_0 rfl (lv_at hl 0 rfl) ?_
  refine lv_iload_n hx hb dX0_exit_1 rfl (lv_at hl 1 rfl) ?_
  refine o_call (nA := 1) (As := [.int (iI pp)]) (rest := []) E hW hl (xm_isAlive l D cI cZ h a X pp hp hB1) (lw_V q86 q88 qs0 q21 q89) rfl (by decide +kernel) rfl ⟨Nat.le_of_ble_eq_true rfl, Nat.le_of_ble_eq_true rfl⟩ rfl (Nat.le_of_ble_eq_true rfl) ⟨Nat.le_of_ble_eq_true rfl, Nat.le_of_ble_eq_true rfl⟩ dX0_exit_2 (fun z_2 X_2 H locs hq hW => ?_)
  rcases hq with ⟨q_2, rfl, rfl⟩ | ⟨q_2, rfl, rfl⟩
  · refine o_ifeq (tgt := 16) hx hb dX0_exit_5 (by decide) (by omega) (fun q => absurd q (by decide)) (fun _ => ?_)
    refine lv_aload_n hx hb dX0_exit_8 rfl (lv_at hl 0 rfl) ?_
    refine o_get E hW in_X0 rfl 0 (by decide) (v := .int (iI (X 0 0))) rfl q31 rfl dX0_exit_9 ?_
    refine o_iconst hx hb dX0_exit_12 ?_
    refine o_cne (tgt := 18) hx hb dX0_exit_13 (by decide) (by omega) (by omega) (fun c_13 => ?_) (fun c_13 => ?_)
    · refine o_iconst hx hb dX0_exit_18 ?_
      refine lv_istore_n (lv' := [(2, .int (iI 0)), (0, .ref h), (1, .int (iI pp))]) hx hb dX0_exit_19 rfl hl (by decide) rfl (fun ls hl => ?_)
      have lp_20 : ∀ (n : Nat) (d : Int)  (Y : oS) (H : Heap) (locs : List Loc) (ls : Array Slot), 6 - d < (n : Int) → (0 ≤ d ∧ d ≤ 6) → (Y = ex X pp d.toNat) → mW dX D cI cZ h a A s Y H locs → lv_has ls 4 [(0, .ref h), (1, .int (iI pp)), (2, .int (iI d))] → W p l e ({ frames := 1, cells := 0, slots := 0, locals := 21 }) s m (Value.ref h :: [.int (iI pp)]).toArray below meth c H locs 0 0 (MQ below (oQc dX D cI cZ h a A (xq_exit X pp)) (Value.ref h :: [.int (iI pp)]).toArray s 0 0 A) (F0 m 20 ls []) := by
        intro n
        induction n with
        | zero =>
          intro d Y H locs ls hn hd hY hW hl
          exfalso
          omega
        | succ n ih =>
          intro d Y H locs ls hn hd hY hW hl
          refine lv_iload_n hx hb dX0_exit_20 rfl (lv_at hl 2 rfl) ?_
          refine o_bipush hx hb dX0_exit_21 (by decide) ?_
          refine o_cge (tgt := 65) hx hb dX0_exit_23 (by decide) (by omega) (by omega) (fun c_23 => ?_) (fun c_23 => ?_)
          · refine lv_aload_n hx hb dX0_exit_65 rfl (lv_at hl 0 rfl) ?_
            refine o_get E hW in_X0 rfl 1 (by decide) (v := .ref (a 1)) rfl q32 rfl dX0_exit_66 ?_
            refine lv_iload_n hx hb dX0_exit_69 rfl (lv_at hl 1 rfl) ?_
            refine o_iconst hx hb dX0_exit_70 ?_
            refine o_zst E hW 1 ⟨by decide, rfl⟩ (by omega) (by omega) (by decide) (by decide) dX0_exit_71 (fun H locs hW => ?_)
            refine lv_aload_n hx hb dX0_exit_72 rfl (lv_at hl 0 rfl) ?_
            refine lv_dup hx hb dX0_exit_73 rfl ?_
            refine o_get E hW in_X0 rfl 0 (by decide) (v := .int (iI (Y 0 0))) rfl q31 rfl dX0_exit_74 ?_
            refine o_iconst hx hb dX0_exit_77 ?_
            refine o_isub hx hb dX0_exit_78 ?_
            refine x_putL E hW q31 dX0_exit_79 (fun H locs hW => ?_)
            refine o_iconst hx hb dX0_exit_82 ?_
            exact o_ret (z := 0) E hW dX0_exit_83 (Or.inr ⟨by omega, rfl, by rw [show d = 6 by omega] at hY; subst hY; rfl⟩)
          · have hEd := hE q_2 d.toNat (by omega)
            rw [← hY] at hEd
            obtain ⟨e2, e3, e4, e5, e6⟩ := hEd
            refine lv_aload_n hx hb dX0_exit_26 rfl (lv_at hl 0 rfl) ?_
            refine o_get E hW in_X0 rfl 2 (by decide) (v := .ref (a 2)) rfl q33 rfl dX0_exit_27 ?_
            refine o_bipush hx hb dX0_exit_30 (by decide) ?_
            refine lv_iload_n hx hb dX0_exit_32 rfl (lv_at hl 1 rfl) ?_
            refine o_imul hx hb dX0_exit_33 ?_
            refine lv_iload_n hx hb dX0_exit_34 rfl (lv_at hl 2 rfl) ?_
            refine o_iadd hx hb dX0_exit_35 ?_
            have h_36 := e2 ((6 * pp) + d) (by omega) (by omega)
            refine o_ld E hW 2 ⟨by decide, rfl⟩ (by omega) (by omega) (by decide) (z := Y 2 ((6 * pp) + d)) rfl dX0_exit_36 ?_
            refine lv_istore_n (lv' := [(3, .int (iI (Y 2 ((6 * pp) + d)))), (0, .ref h), (1, .int (iI pp)), (2, .int (iI d))]) hx hb dX0_exit_37 rfl hl (by decide) rfl (fun ls hl => ?_)
            refine lv_iload_n hx hb dX0_exit_38 rfl (lv_at hl 0 rfl) ?_
            refine o_iflt (tgt := 59) hx hb dX0_exit_39 (by decide) (by omega) (fun c_39 => ?_) (fun c_39 => ?_)
            · refine o_iinc (lv' := [(2, .int (iI (d + 1))), (3, .int (iI (Y 2 ((6 * pp) + d)))), (0, .ref h), (1, .int (iI pp))]) hx hb dX0_exit_59 hl (k := 3) rfl (by decide) rfl (fun ls hl => ?_)
              refine lv_goto (tgt := 20) hx hb dX0_exit_62 (by decide) ?_
              exact ih (d + 1)  Y _ _ _ (by omega) ⟨by omega, by omega⟩ (ex_n hY (by omega) (by omega)) hW (lv_sub hl [2, 3, 0] rfl)
            · refine lv_aload_n hx hb dX0_exit_42 rfl (lv_at hl 1 rfl) ?_
              refine o_get E hW in_X0 rfl 2 (by decide) (v := .ref (a 2)) rfl q33 rfl dX0_exit_43 ?_
              refine o_bipush hx hb dX0_exit_46 (by decide) ?_
              refine lv_iload_n hx hb dX0_exit_48 rfl (lv_at hl 2 rfl) ?_
              refine o_imul hx hb dX0_exit_49 ?_
              refine lv_iload_n hx hb dX0_exit_50 rfl (lv_at hl 3 rfl) ?_
              refine o_iadd hx hb dX0_exit_51 ?_
              refine o_iconst hx hb dX0_exit_52 ?_
              refine o_st E hW 2 ⟨by decide, rfl⟩ (by omega) (by omega) (by decide) dX0_exit_53 (fun H locs hW => ?_)
              refine lv_aload_n hx hb dX0_exit_54 rfl (lv_at hl 1 rfl) ?_
              refine lv_iload_n hx hb dX0_exit_55 rfl (lv_at hl 0 rfl) ?_
              refine o_callv (nA := 1) (As := [.int (iI (Y 2 ((6 * pp) + d)))]) (rest := []) E hW hl (xm_letGo l D cI cZ h a (su Y 2 ((6 * pp) + d) (-1)) (Y 2 ((6 * pp) + d)) ⟨by omega, by omega⟩ (e3 _ (by omega) (by omega)) (e4 _ (by omega) (by omega)) (e5 _ (by omega) (by omega)) (e6 _ (by omega) (by omega))) (lw_V q125 q127 qs6 q21 q128) rfl (by decide +kernel) rfl ⟨Nat.le_of_ble_eq_true rfl, Nat.le_of_ble_eq_true rfl⟩ rfl (Nat.le_of_ble_eq_true rfl) ⟨Nat.le_of_ble_eq_true rfl, Nat.le_of_ble_eq_true rfl⟩ dX0_exit_56 (fun X_56 H locs hq hW => ?_)
              obtain rfl := hq
              refine o_iinc (lv' := [(2, .int (iI (d + 1))), (3, .int (iI (Y 2 ((6 * pp) + d)))), (0, .ref h), (1, .int (iI pp))]) hx hb dX0_exit_59 hl (k := 3) rfl (by decide) rfl (fun ls hl => ?_)
              refine lv_goto (tgt := 20) hx hb dX0_exit_62 (by decide) ?_
              exact ih (d + 1)  (lg (su Y 2 ((6 * pp) + d) (-1)) (Y 2 ((6 * pp) + d))) _ _ _ (by omega) ⟨by omega, by omega⟩ (ex_y hY (by omega) (by omega)) hW (lv_sub hl [2, 3, 0] rfl)
      exact lp_20 7 0  X _ _ _ (by omega) ⟨by omega, by omega⟩ rfl hW (lv_sub hl [1, 2, 0] rfl)
    · refine o_iconst hx hb dX0_exit_16 ?_
      exact o_ret (z := (-1)) E hW dX0_exit_17 (Or.inl ⟨by omega, rfl, rfl⟩)
  · refine o_ifeq (tgt := 16) hx hb dX0_exit_5 (by decide) (by omega) (fun _ => ?_) (fun q => absurd q (by decide))
    refine o_iconst hx hb dX0_exit_16 ?_
    exact o_ret (z := (-1)) E hW dX0_exit_17 (Or.inl ⟨by omega, rfl, rfl⟩)
set_option maxHeartbeats 4000000 in
/-- counts -/
theorem xm_counts (l : Launch) (D : va_G) (cI cZ : ClassId) (h : Nat) (a : Nat → Nat) (X : oS)  (hB3 : rg X 3 24 0 24) (hB8 : rg X 8 28 0 30) (hB11 : rg X 11 24 0 1) (hB12 : rg X 12 24 0 1) : oC dX l yX0_counts cX0_counts 5 (some .int) 0 0 D cI cZ h a X [] (xq_counts X) := by
  refine oC_of (own := RX0) (by decide) rfl (Nat.le_of_ble_eq_true rfl) rfl ?_
  intro p e s m below meth c ls A E hW hl
  have hx := E.1
  have hb := E.2.1
  have hl : lv_has ls 5 [(0, .ref h)] := hl
  refine o_iconst hx hb dX0_counts_0 ?_
  refine lv_istore_n (lv' := [(1, .int (iI 0)), (0, .ref h)]) hx hb dX0_counts_1 rfl hl (by decide) rfl (fun ls hl => ?_)
  refine o_iconst hx hb dX0_counts_2 ?_
  refine lv_istore_n (lv' := [(2, .int (iI 0)), (1, .int (iI 0)), (0, .ref h)]) hx hb dX0_counts_3 rfl hl (by decide) rfl (fun ls hl => ?_)
  refine o_iconst hx hb dX0_counts_4 ?_
  refine lv_istore_n (lv' := [(3, .int (iI 0)), (2, .int (iI 0)), (1, .int (iI 0)), (0, .ref h)]) hx hb dX0_counts_5 rfl hl (by decide) rfl (fun ls hl => ?_)
  refine o_iconst hx hb dX0_counts_6 ?_
  refine lv_istore (lv' := [(4, .int (iI 0)), (3, .int (iI 0)), (2, .int (iI 0)), (1, .int (iI 0)), (0, .ref h)]) hx hb dX0_counts_7 hl (by decide) rfl (fun ls hl => ?_)
  have lp_9 : ∀ (n : Nat) (n1 : Int) (i : Int)  (H : Heap) (locs : List Loc) (ls : Array Slot), 24 - i < (n : Int) → (0 ≤ i ∧ i ≤ 24) → (n1 = cp (fun o => 0 < X 3 o) i.toNat) → mW dX D cI cZ h a A s X H locs → lv_has ls 5 [(0, .ref h), (1, .int (iI n1)), (2, .int (iI 0)), (3, .int (iI 0)), (4, .int (iI i))] → W p l e ({ frames := 0, cells := 0, slots := 0, locals := 0 }) s m (Value.ref h :: []).toArray below meth c H locs 0 0 (MQ below (oQc dX D cI cZ h a A (xq_counts X)) (Value.ref h :: []).toArray s 0 0 A) (F0 m 9 ls []) := by
    intro n
    induction n with
    | zero =>
      intro n1 i H locs ls hn hi hI hW hl
      exfalso
      omega
    | succ n ih =>
      intro n1 i H locs ls hn hi hI hW hl
      refine lv_iload hx hb dX0_counts_9 (lv_at hl 4 rfl) ?_
      refine o_bipush hx hb dX0_counts_11 (by decide) ?_
      refine o_cge (tgt := 40) hx hb dX0_counts_13 (by decide) (by omega) (by omega) (fun c_13 => ?_) (fun c_13 => ?_)
      · have hn1 : n1 = cp (fun o => 0 < X 3 o) 24 := by rw [hI, show i = 24 by omega]; rfl
        refine o_iconst hx hb dX0_counts_40 ?_
        refine lv_istore (lv' := [(4, .int (iI 0)), (0, .ref h), (1, .int (iI n1)), (2, .int (iI 0)), (3, .int (iI 0))]) hx hb dX0_counts_41 hl (by decide) rfl (fun ls hl => ?_)
        have lp_43 : ∀ (n : Nat) (n2 : Int) (i : Int)  (H : Heap) (locs : List Loc) (ls : Array Slot), 28 - i < (n : Int) → (0 ≤ i ∧ i ≤ 28) → (n2 = cp (fun f => 0 < X 8 f) i.toNat) → mW dX D cI cZ h a A s X H locs → lv_has ls 5 [(0, .ref h), (1, .int (iI n1)), (2, .int (iI n2)), (3, .int (iI 0)), (4, .int (iI i))] → W p l e ({ frames := 0, cells := 0, slots := 0, locals := 0 }) s m (Value.ref h :: []).toArray below meth c H locs 0 0 (MQ below (oQc dX D cI cZ h a A (xq_counts X)) (Value.ref h :: []).toArray s 0 0 A) (F0 m 43 ls []) := by
          intro n
          induction n with
          | zero =>
            intro n2 i H locs ls hn hi hI hW hl
            exfalso
            omega
          | succ n ih =>
            intro n2 i H locs ls hn hi hI hW hl
            refine lv_iload hx hb dX0_counts_43 (lv_at hl 4 rfl) ?_
            refine o_bipush hx hb dX0_counts_45 (by decide) ?_
            refine o_cge (tgt := 74) hx hb dX0_counts_47 (by decide) (by omega) (by omega) (fun c_47 => ?_) (fun c_47 => ?_)
            · have hn2 : n2 = cp (fun f => 0 < X 8 f) 28 := by rw [hI, show i = 28 by omega]; rfl
              refine o_iconst hx hb dX0_counts_74 ?_
              refine lv_istore (lv' := [(4, .int (iI 0)), (0, .ref h), (1, .int (iI n1)), (2, .int (iI n2)), (3, .int (iI 0))]) hx hb dX0_counts_75 hl (by decide) rfl (fun ls hl => ?_)
              have lp_77 : ∀ (n : Nat) (n3 : Int) (i : Int)  (H : Heap) (locs : List Loc) (ls : Array Slot), 24 - i < (n : Int) → (0 ≤ i ∧ i ≤ 24) → (n3 = cp (fun q => X 11 q ≠ 0 ∨ X 12 q ≠ 0) i.toNat) → mW dX D cI cZ h a A s X H locs → lv_has ls 5 [(0, .ref h), (1, .int (iI n1)), (2, .int (iI n2)), (3, .int (iI n3)), (4, .int (iI i))] → W p l e ({ frames := 0, cells := 0, slots := 0, locals := 0 }) s m (Value.ref h :: []).toArray below meth c H locs 0 0 (MQ below (oQc dX D cI cZ h a A (xq_counts X)) (Value.ref h :: []).toArray s 0 0 A) (F0 m 77 ls []) := by
                intro n
                induction n with
                | zero =>
                  intro n3 i H locs ls hn hi hI hW hl
                  exfalso
                  omega
                | succ n ih =>
                  intro n3 i H locs ls hn hi hI hW hl
                  refine lv_iload hx hb dX0_counts_77 (lv_at hl 4 rfl) ?_
                  refine o_bipush hx hb dX0_counts_79 (by decide) ?_
                  refine o_cge (tgt := 118) hx hb dX0_counts_81 (by decide) (by omega) (by omega) (fun c_81 => ?_) (fun c_81 => ?_)
                  · have hn3 : n3 = cp (fun q => X 11 q ≠ 0 ∨ X 12 q ≠ 0) 24 := by rw [hI, show i = 24 by omega]; rfl
                    refine o_bipush hx hb dX0_counts_118 (by decide) ?_
                    refine lv_iload_n hx hb dX0_counts_120 rfl (lv_at hl 1 rfl) ?_
                    refine o_imul hx hb dX0_counts_121 ?_
                    refine o_bipush hx hb dX0_counts_122 (by decide) ?_
                    refine lv_iload_n hx hb dX0_counts_124 rfl (lv_at hl 2 rfl) ?_
                    refine o_imul hx hb dX0_counts_125 ?_
                    refine o_iadd hx hb dX0_counts_126 ?_
                    refine lv_iload_n hx hb dX0_counts_127 rfl (lv_at hl 3 rfl) ?_
                    refine o_iadd hx hb dX0_counts_128 ?_
                    exact o_ret (z := (((100 * n1) + (10 * n2)) + n3)) E hW dX0_counts_129 (⟨by rw [hn1, hn2, hn3], rfl⟩)
                  · refine lv_iload_n hx hb dX0_counts_84 rfl (lv_at hl 3 rfl) ?_
                    refine lv_aload_n hx hb dX0_counts_85 rfl (lv_at hl 0 rfl) ?_
                    refine o_get E hW in_X0 rfl 11 (by decide) (v := .ref (a 11)) rfl q42 rfl dX0_counts_86 ?_
                    refine lv_iload hx hb dX0_counts_89 (lv_at hl 4 rfl) ?_
                    have h_91 := hB11 i (by omega) (by omega)
                    refine o_zld E hW 11 ⟨by decide, rfl⟩ (by omega) (by omega) (by decide) (z := X 11 i) rfl dX0_counts_91 ?_
                    refine o_ifne (tgt := 105) hx hb dX0_counts_92 (by decide) (by omega) (fun c_92 => ?_) (fun c_92 => ?_)
                    · refine o_iconst hx hb dX0_counts_105 ?_
                      refine lv_goto (tgt := 110) hx hb dX0_counts_106 (by decide) ?_
                      refine o_iadd hx hb dX0_counts_110 ?_
                      refine lv_istore_n (lv' := [(3, .int (iI (n3 + 1))), (0, .ref h), (1, .int (iI n1)), (2, .int (iI n2)), (4, .int (iI i))]) hx hb dX0_counts_111 rfl hl (by decide) rfl (fun ls hl => ?_)
                      refine o_iinc (lv' := [(4, .int (iI (i + 1))), (3, .int (iI (n3 + 1))), (0, .ref h), (1, .int (iI n1)), (2, .int (iI n2))]) hx hb dX0_counts_112 hl (k := 4) rfl (by decide) rfl (fun ls hl => ?_)
                      refine lv_goto (tgt := 77) hx hb dX0_counts_115 (by decide) ?_
                      exact ih (n3 + 1) (i + 1)  _ _ _ (by omega) ⟨by omega, by omega⟩ (cp_y (by omega) hI (by omega)) hW (lv_sub hl [2, 3, 4, 1, 0] rfl)
                    · refine lv_aload_n hx hb dX0_counts_95 rfl (lv_at hl 0 rfl) ?_
                      refine o_get E hW in_X0 rfl 12 (by decide) (v := .ref (a 12)) rfl q43 rfl dX0_counts_96 ?_
                      refine lv_iload hx hb dX0_counts_99 (lv_at hl 4 rfl) ?_
                      have h_101 := hB12 i (by omega) (by omega)
                      refine o_zld E hW 12 ⟨by decide, rfl⟩ (by omega) (by omega) (by decide) (z := X 12 i) rfl dX0_counts_101 ?_
                      refine o_ifeq (tgt := 109) hx hb dX0_counts_102 (by decide) (by omega) (fun c_102 => ?_) (fun c_102 => ?_)
                      · refine o_iconst hx hb dX0_counts_109 ?_
                        refine o_iadd hx hb dX0_counts_110 ?_
                        refine lv_istore_n (lv' := [(3, .int (iI (n3 + 0))), (0, .ref h), (1, .int (iI n1)), (2, .int (iI n2)), (4, .int (iI i))]) hx hb dX0_counts_111 rfl hl (by decide) rfl (fun ls hl => ?_)
                        refine o_iinc (lv' := [(4, .int (iI (i + 1))), (3, .int (iI (n3 + 0))), (0, .ref h), (1, .int (iI n1)), (2, .int (iI n2))]) hx hb dX0_counts_112 hl (k := 4) rfl (by decide) rfl (fun ls hl => ?_)
                        refine lv_goto (tgt := 77) hx hb dX0_counts_115 (by decide) ?_
                        exact ih (n3 + 0) (i + 1)  _ _ _ (by omega) ⟨by omega, by omega⟩ (cp_n0 (by omega) hI (by omega)) hW (lv_sub hl [2, 3, 4, 1, 0] rfl)
                      · refine o_iconst hx hb dX0_counts_105 ?_
                        refine lv_goto (tgt := 110) hx hb dX0_counts_106 (by decide) ?_
                        refine o_iadd hx hb dX0_counts_110 ?_
                        refine lv_istore_n (lv' := [(3, .int (iI (n3 + 1))), (0, .ref h), (1, .int (iI n1)), (2, .int (iI n2)), (4, .int (iI i))]) hx hb dX0_counts_111 rfl hl (by decide) rfl (fun ls hl => ?_)
                        refine o_iinc (lv' := [(4, .int (iI (i + 1))), (3, .int (iI (n3 + 1))), (0, .ref h), (1, .int (iI n1)), (2, .int (iI n2))]) hx hb dX0_counts_112 hl (k := 4) rfl (by decide) rfl (fun ls hl => ?_)
                        refine lv_goto (tgt := 77) hx hb dX0_counts_115 (by decide) ?_
                        exact ih (n3 + 1) (i + 1)  _ _ _ (by omega) ⟨by omega, by omega⟩ (cp_y (by omega) hI (by omega)) hW (lv_sub hl [2, 3, 4, 1, 0] rfl)
              exact lp_77 25 0 0  _ _ _ (by omega) ⟨by omega, by omega⟩ rfl hW (lv_sub hl [1, 2, 3, 4, 0] rfl)
            · refine lv_iload_n hx hb dX0_counts_50 rfl (lv_at hl 2 rfl) ?_
              refine lv_aload_n hx hb dX0_counts_51 rfl (lv_at hl 0 rfl) ?_
              refine o_get E hW in_X0 rfl 8 (by decide) (v := .ref (a 8)) rfl q39 rfl dX0_counts_52 ?_
              refine lv_iload hx hb dX0_counts_55 (lv_at hl 4 rfl) ?_
              have h_57 := hB8 i (by omega) (by omega)
              refine o_ld E hW 8 ⟨by decide, rfl⟩ (by omega) (by omega) (by decide) (z := X 8 i) rfl dX0_counts_57 ?_
              refine o_ifle (tgt := 65) hx hb dX0_counts_58 (by decide) (by omega) (fun c_58 => ?_) (fun c_58 => ?_)
              · refine o_iconst hx hb dX0_counts_65 ?_
                refine o_iadd hx hb dX0_counts_66 ?_
                refine lv_istore_n (lv' := [(2, .int (iI (n2 + 0))), (0, .ref h), (1, .int (iI n1)), (3, .int (iI 0)), (4, .int (iI i))]) hx hb dX0_counts_67 rfl hl (by decide) rfl (fun ls hl => ?_)
                refine o_iinc (lv' := [(4, .int (iI (i + 1))), (2, .int (iI (n2 + 0))), (0, .ref h), (1, .int (iI n1)), (3, .int (iI 0))]) hx hb dX0_counts_68 hl (k := 4) rfl (by decide) rfl (fun ls hl => ?_)
                refine lv_goto (tgt := 43) hx hb dX0_counts_71 (by decide) ?_
                exact ih (n2 + 0) (i + 1)  _ _ _ (by omega) ⟨by omega, by omega⟩ (cp_n0 (by omega) hI (by omega)) hW (lv_sub hl [2, 3, 1, 4, 0] rfl)
              · refine o_iconst hx hb dX0_counts_61 ?_
                refine lv_goto (tgt := 66) hx hb dX0_counts_62 (by decide) ?_
                refine o_iadd hx hb dX0_counts_66 ?_
                refine lv_istore_n (lv' := [(2, .int (iI (n2 + 1))), (0, .ref h), (1, .int (iI n1)), (3, .int (iI 0)), (4, .int (iI i))]) hx hb dX0_counts_67 rfl hl (by decide) rfl (fun ls hl => ?_)
                refine o_iinc (lv' := [(4, .int (iI (i + 1))), (2, .int (iI (n2 + 1))), (0, .ref h), (1, .int (iI n1)), (3, .int (iI 0))]) hx hb dX0_counts_68 hl (k := 4) rfl (by decide) rfl (fun ls hl => ?_)
                refine lv_goto (tgt := 43) hx hb dX0_counts_71 (by decide) ?_
                exact ih (n2 + 1) (i + 1)  _ _ _ (by omega) ⟨by omega, by omega⟩ (cp_y (by omega) hI (by omega)) hW (lv_sub hl [2, 3, 1, 4, 0] rfl)
        exact lp_43 29 0 0  _ _ _ (by omega) ⟨by omega, by omega⟩ rfl hW (lv_sub hl [1, 2, 3, 4, 0] rfl)
      · refine lv_iload_n hx hb dX0_counts_16 rfl (lv_at hl 1 rfl) ?_
        refine lv_aload_n hx hb dX0_counts_17 rfl (lv_at hl 0 rfl) ?_
        refine o_get E hW in_X0 rfl 3 (by decide) (v := .ref (a 3)) rfl q34 rfl dX0_counts_18 ?_
        refine lv_iload hx hb dX0_counts_21 (lv_at hl 4 rfl) ?_
        have h_23 := hB3 i (by omega) (by omega)
        refine o_ld E hW 3 ⟨by decide, rfl⟩ (by omega) (by omega) (by decide) (z := X 3 i) rfl dX0_counts_23 ?_
        refine o_ifle (tgt := 31) hx hb dX0_counts_24 (by decide) (by omega) (fun c_24 => ?_) (fun c_24 => ?_)
        · refine o_iconst hx hb dX0_counts_31 ?_
          refine o_iadd hx hb dX0_counts_32 ?_
          refine lv_istore_n (lv' := [(1, .int (iI (n1 + 0))), (0, .ref h), (2, .int (iI 0)), (3, .int (iI 0)), (4, .int (iI i))]) hx hb dX0_counts_33 rfl hl (by decide) rfl (fun ls hl => ?_)
          refine o_iinc (lv' := [(4, .int (iI (i + 1))), (1, .int (iI (n1 + 0))), (0, .ref h), (2, .int (iI 0)), (3, .int (iI 0))]) hx hb dX0_counts_34 hl (k := 4) rfl (by decide) rfl (fun ls hl => ?_)
          refine lv_goto (tgt := 9) hx hb dX0_counts_37 (by decide) ?_
          exact ih (n1 + 0) (i + 1)  _ _ _ (by omega) ⟨by omega, by omega⟩ (cp_n0 (by omega) hI (by omega)) hW (lv_sub hl [2, 1, 3, 4, 0] rfl)
        · refine o_iconst hx hb dX0_counts_27 ?_
          refine lv_goto (tgt := 32) hx hb dX0_counts_28 (by decide) ?_
          refine o_iadd hx hb dX0_counts_32 ?_
          refine lv_istore_n (lv' := [(1, .int (iI (n1 + 1))), (0, .ref h), (2, .int (iI 0)), (3, .int (iI 0)), (4, .int (iI i))]) hx hb dX0_counts_33 rfl hl (by decide) rfl (fun ls hl => ?_)
          refine o_iinc (lv' := [(4, .int (iI (i + 1))), (1, .int (iI (n1 + 1))), (0, .ref h), (2, .int (iI 0)), (3, .int (iI 0))]) hx hb dX0_counts_34 hl (k := 4) rfl (by decide) rfl (fun ls hl => ?_)
          refine lv_goto (tgt := 9) hx hb dX0_counts_37 (by decide) ?_
          exact ih (n1 + 1) (i + 1)  _ _ _ (by omega) ⟨by omega, by omega⟩ (cp_y (by omega) hI (by omega)) hW (lv_sub hl [2, 1, 3, 4, 0] rfl)
  exact lp_9 25 0 0  _ _ _ (by omega) ⟨by omega, by omega⟩ rfl hW (lv_sub hl [4, 3, 2, 1, 0] rfl)
end
section
/-! DescriptorTableModel: the small methods -/
set_option maxRecDepth 100000
def opd (X : oS) (o : Int) : Prop := ∃ i, 0 ≤ i ∧ i < 24 ∧ X 2 i = o
def hq1 (X : oS) (s w o : Int) : Prop := ((s = 3 ∧ 0 < X 3 o) ∨ (s ≠ 3 ∧ X 3 o = s)) ∧ X 4 o = w ∧ opd X o
def hop (X : oS) (s w : Int) : Prop := ∃ o, 0 ≤ o ∧ o < 24 ∧ hq1 X s w o
def isf (X : oS) (f : Int) : Prop := (∃ n, 0 ≤ n ∧ n < 4 ∧ X 6 n = f) ∨ hop X 0 f
abbrev luo (X : oS) (o : Int) : Prop := 0 ≤ o ∧ o < 24 ∧ ¬ opd X o ∧ ∀ j, 0 ≤ j → j < o → opd X j
abbrev lnf (X : oS) (f : Int) : Prop := 0 ≤ f ∧ f < 28 ∧ ¬ isf X f ∧ ∀ j, 0 ≤ j → j < f → isf X j
abbrev mld (X : oS) (pp d o s w : Int) : oS := su (su (su (su X 3 o s) 4 o w) 5 o 0) 2 (6 * pp + d) o
theorem cp_r (P : Int → Prop) : ∀ n : Nat, 0 ≤ cp P n ∧ cp P n ≤ n
  | 0 => by show (0 : Int) ≤ 0 ∧ (0 : Int) ≤ 0; omega
  | n + 1 => by
    have := cp_r P n
    by_cases h : P (n : Int)
    · rw [cp_sy h]; omega
    · rw [cp_sn h]; omega
set_option maxHeartbeats 4000000 in
/-- dead -/
theorem mm_dead (l : Launch) (D : va_G) (cI cZ : ClassId) (h : Nat) (a : Nat → Nat) (X : oS) (pp : Int) (hp : ii_r pp) (hB1 : rg X 1 4 0 1) : oC dM l yX1_dead cX1_dead 2 (some .boolean) 0 0 D cI cZ h a X [.int (iI pp)] (fun z u => (¬ al X pp ∧ z = 1 ∧ X = u) ∨ (al X pp ∧ z = 0 ∧ X = u)) := by
  refine oC_of (own := RX1) (by decide) rfl (Nat.le_of_ble_eq_true rfl) rfl ?_
  intro p e s m below meth c ls A E hW hl
  have hx := E.1
  have hb := E.2.1
  have hl : lv_has ls 2 [(0, .ref h), (1, .int (iI pp))] := hl
  refine lv_iload_n hx hb dX1_dead_0 rfl (lv_at hl 1 rfl) ?_
  refine o_iflt (tgt := 18) hx hb dX1_dead_1 (by decide) (by omega) (fun c_1 => ?_) (fun c_1 => ?_)
  · refine o_iconst hx hb dX1_dead_18 ?_
    refine lv_goto (tgt := 23) hx hb dX1_dead_19 (by decide) ?_
    exact o_zret (z := 1) E hW dX1_dead_23 (by omega) (Or.inl ⟨by omega, rfl, rfl⟩)
  · refine lv_iload_n hx hb dX1_dead_4 rfl (lv_at hl 1 rfl) ?_
    refine o_iconst hx hb dX1_dead_5 ?_
    refine o_cgt (tgt := 18) hx hb dX1_dead_6 (by decide) (by omega) (by omega) (fun c_6 => ?_) (fun c_6 => ?_)
    · refine o_iconst hx hb dX1_dead_18 ?_
      refine lv_goto (tgt := 23) hx hb dX1_dead_19 (by decide) ?_
      exact o_zret (z := 1) E hW dX1_dead_23 (by omega) (Or.inl ⟨by omega, rfl, rfl⟩)
    · refine lv_aload_n hx hb dX1_dead_9 rfl (lv_at hl 0 rfl) ?_
      refine o_get E hW in_X1 rfl 0 (by decide) (v := .ref (a 1)) rfl q183 rfl dX1_dead_10 ?_
      refine lv_iload_n hx hb dX1_dead_13 rfl (lv_at hl 1 rfl) ?_
      have h_14 := hB1 pp (by omega) (by omega)
      refine o_zld E hW 1 ⟨by decide, rfl⟩ (by omega) (by omega) (by decide) (z := X 1 pp) rfl dX1_dead_14 ?_
      refine o_ifne (tgt := 22) hx hb dX1_dead_15 (by decide) (by omega) (fun c_15 => ?_) (fun c_15 => ?_)
      · refine o_iconst hx hb dX1_dead_22 ?_
        exact o_zret (z := 0) E hW dX1_dead_23 (by omega) (Or.inr ⟨by omega, rfl, rfl⟩)
      · refine o_iconst hx hb dX1_dead_18 ?_
        refine lv_goto (tgt := 23) hx hb dX1_dead_19 (by decide) ?_
        exact o_zret (z := 1) E hW dX1_dead_23 (by omega) (Or.inl ⟨by omega, rfl, rfl⟩)
set_option maxHeartbeats 4000000 in
/-- free -/
theorem mm_free (l : Launch) (D : va_G) (cI cZ : ClassId) (h : Nat) (a : Nat → Nat) (X : oS) (pp : Int) (dd : Int) (hp : ii_r pp) (hd : ii_r dd) (hB1 : rg X 1 4 0 1) (hB2 : rg X 2 24 (-1) 23) : oC dM l yX1_free cX1_free 3 (some .boolean) 1 21 D cI cZ h a X [.int (iI pp), .int (iI dd)] (fun z u => (¬ hasD X pp dd ∧ z = 1 ∧ X = u) ∨ (hasD X pp dd ∧ z = 0 ∧ X = u)) := by
  refine oC_of (own := RX1) (by decide) rfl (Nat.le_of_ble_eq_true rfl) rfl ?_
  intro p e s m below meth c ls A E hW hl
  have hx := E.1
  have hb := E.2.1
  have hl : lv_has ls 3 [(0, .ref h), (1, .int (iI pp)), (2, .int (iI dd))] := hl
  refine lv_aload_n hx hb dX1_free_0 rfl (lv_at hl 0 rfl) ?_
  refine lv_iload_n hx hb dX1_free_1 rfl (lv_at hl 1 rfl) ?_
  refine o_call (nA := 1) (As := [.int (iI pp)]) (rest := []) E hW hl (mm_dead l D cI cZ h a X pp hp hB1) (lw_V q218 q220 qs11 q22 q221) rfl (by decide +kernel) rfl ⟨Nat.le_of_ble_eq_true rfl, Nat.le_of_ble_eq_true rfl⟩ rfl (Nat.le_of_ble_eq_true rfl) ⟨Nat.le_of_ble_eq_true rfl, Nat.le_of_ble_eq_true rfl⟩ dX1_free_2 (fun z_2 X_2 H locs hq hW => ?_)
  rcases hq with ⟨q_2, rfl, rfl⟩ | ⟨q_2, rfl, rfl⟩
  · refine o_ifne (tgt := 31) hx hb dX1_free_5 (by decide) (by omega) (fun _ => ?_) (fun q => absurd q (by decide))
    refine o_iconst hx hb dX1_free_31 ?_
    refine lv_goto (tgt := 36) hx hb dX1_free_32 (by decide) ?_
    exact o_zret (z := 1) E hW dX1_free_36 (by omega) (Or.inl ⟨by omega, rfl, rfl⟩)
  · refine o_ifne (tgt := 31) hx hb dX1_free_5 (by decide) (by omega) (fun q => absurd q (by decide)) (fun _ => ?_)
    refine lv_iload_n hx hb dX1_free_8 rfl (lv_at hl 2 rfl) ?_
    refine o_iflt (tgt := 31) hx hb dX1_free_9 (by decide) (by omega) (fun c_9 => ?_) (fun c_9 => ?_)
    · refine o_iconst hx hb dX1_free_31 ?_
      refine lv_goto (tgt := 36) hx hb dX1_free_32 (by decide) ?_
      exact o_zret (z := 1) E hW dX1_free_36 (by omega) (Or.inl ⟨by omega, rfl, rfl⟩)
    · refine lv_iload_n hx hb dX1_free_12 rfl (lv_at hl 2 rfl) ?_
      refine o_iconst hx hb dX1_free_13 ?_
      refine o_cgt (tgt := 31) hx hb dX1_free_14 (by decide) (by omega) (by omega) (fun c_14 => ?_) (fun c_14 => ?_)
      · refine o_iconst hx hb dX1_free_31 ?_
        refine lv_goto (tgt := 36) hx hb dX1_free_32 (by decide) ?_
        exact o_zret (z := 1) E hW dX1_free_36 (by omega) (Or.inl ⟨by omega, rfl, rfl⟩)
      · refine lv_aload_n hx hb dX1_free_17 rfl (lv_at hl 0 rfl) ?_
        refine o_get E hW in_X1 rfl 1 (by decide) (v := .ref (a 2)) rfl q184 rfl dX1_free_18 ?_
        refine o_bipush hx hb dX1_free_21 (by decide) ?_
        refine lv_iload_n hx hb dX1_free_23 rfl (lv_at hl 1 rfl) ?_
        refine o_imul hx hb dX1_free_24 ?_
        refine lv_iload_n hx hb dX1_free_25 rfl (lv_at hl 2 rfl) ?_
        refine o_iadd hx hb dX1_free_26 ?_
        have h_27 := hB2 ((6 * pp) + dd) (by omega) (by omega)
        refine o_ld E hW 2 ⟨by decide, rfl⟩ (by omega) (by omega) (by decide) (z := X 2 ((6 * pp) + dd)) rfl dX1_free_27 ?_
        refine o_ifge (tgt := 35) hx hb dX1_free_28 (by decide) (by omega) (fun c_28 => ?_) (fun c_28 => ?_)
        · refine o_iconst hx hb dX1_free_35 ?_
          exact o_zret (z := 0) E hW dX1_free_36 (by omega) (Or.inr ⟨by omega, rfl, rfl⟩)
        · refine o_iconst hx hb dX1_free_31 ?_
          refine lv_goto (tgt := 36) hx hb dX1_free_32 (by decide) ?_
          exact o_zret (z := 1) E hW dX1_free_36 (by omega) (Or.inl ⟨by omega, rfl, rfl⟩)
set_option maxHeartbeats 4000000 in
/-- badName -/
theorem mm_badName (l : Launch) (nn : Int) (hp : ii_r nn) : oCs l yX1_badName cX1_badName 1 (some .boolean) 0 0 [.int (iI nn)] (fun z => (¬ (0 ≤ nn ∧ nn ≤ 3) ∧ z = 1) ∨ ((0 ≤ nn ∧ nn ≤ 3) ∧ z = 0)) := by
  refine oCs_of (by decide) (Nat.le_of_ble_eq_true rfl) rfl ?_
  intro p e s m below meth c ls E hl
  have hx := E.1
  have hb := E.2.1
  have hl : lv_has ls 1 [(0, .int (iI nn))] := hl
  refine lv_iload_n hx hb dX1_badName_0 rfl (lv_at hl 0 rfl) ?_
  refine o_iflt (tgt := 9) hx hb dX1_badName_1 (by decide) (by omega) (fun c_1 => ?_) (fun c_1 => ?_)
  · refine o_iconst hx hb dX1_badName_9 ?_
    refine lv_goto (tgt := 14) hx hb dX1_badName_10 (by decide) ?_
    exact o_sret (z := 1) E dX1_badName_14 (by decide) (Or.inl ⟨by omega, rfl⟩)
  · refine lv_iload_n hx hb dX1_badName_4 rfl (lv_at hl 0 rfl) ?_
    refine o_iconst hx hb dX1_badName_5 ?_
    refine o_cle (tgt := 13) hx hb dX1_badName_6 (by decide) (by omega) (by omega) (fun c_6 => ?_) (fun c_6 => ?_)
    · refine o_iconst hx hb dX1_badName_13 ?_
      exact o_sret (z := 0) E dX1_badName_14 (by decide) (Or.inr ⟨by omega, rfl⟩)
    · refine o_iconst hx hb dX1_badName_9 ?_
      refine lv_goto (tgt := 14) hx hb dX1_badName_10 (by decide) ?_
      exact o_sret (z := 1) E dX1_badName_14 (by decide) (Or.inl ⟨by omega, rfl⟩)
set_option maxHeartbeats 4000000 in
/-- opened -/
theorem mm_opened (l : Launch) (D : va_G) (cI cZ : ClassId) (h : Nat) (a : Nat → Nat) (X : oS) (oo : Int) (ho : ii_r oo) (hB2 : rg X 2 24 (-1) 23) : oC dM l yX1_opened cX1_opened 3 (some .boolean) 0 0 D cI cZ h a X [.int (iI oo)] (fun z u => (opd X oo ∧ z = 1 ∧ X = u) ∨ (¬ opd X oo ∧ z = 0 ∧ X = u)) := by
  refine oC_of (own := RX1) (by decide) rfl (Nat.le_of_ble_eq_true rfl) rfl ?_
  intro p e s m below meth c ls A E hW hl
  have hx := E.1
  have hb := E.2.1
  have hl : lv_has ls 3 [(0, .ref h), (1, .int (iI oo))] := hl
  refine o_iconst hx hb dX1_opened_0 ?_
  refine lv_istore_n (lv' := [(2, .int (iI 0)), (0, .ref h), (1, .int (iI oo))]) hx hb dX1_opened_1 rfl hl (by decide) rfl (fun ls hl => ?_)
  have lp_2 : ∀ (n : Nat) (i : Int)  (H : Heap) (locs : List Loc) (ls : Array Slot), 24 - i < (n : Int) → (0 ≤ i ∧ i ≤ 24) → (∀ j, 0 ≤ j → j < i → X 2 j ≠ oo) → mW dM D cI cZ h a A s X H locs → lv_has ls 3 [(0, .ref h), (1, .int (iI oo)), (2, .int (iI i))] → W p l e ({ frames := 0, cells := 0, slots := 0, locals := 0 }) s m (Value.ref h :: [.int (iI oo)]).toArray below meth c H locs 0 0 (MQ below (oQc dM D cI cZ h a A (fun z u => (opd X oo ∧ z = 1 ∧ X = u) ∨ (¬ opd X oo ∧ z = 0 ∧ X = u))) (Value.ref h :: [.int (iI oo)]).toArray s 0 0 A) (F0 m 2 ls []) := by
    intro n
    induction n with
    | zero =>
      intro i H locs ls hn hi hI hW hl
      exfalso
      omega
    | succ n ih =>
      intro i H locs ls hn hi hI hW hl
      refine lv_iload_n hx hb dX1_opened_2 rfl (lv_at hl 2 rfl) ?_
      refine o_bipush hx hb dX1_opened_3 (by decide) ?_
      refine o_cge (tgt := 26) hx hb dX1_opened_5 (by decide) (by omega) (by omega) (fun c_5 => ?_) (fun c_5 => ?_)
      · refine o_iconst hx hb dX1_opened_26 ?_
        exact o_zret (z := 0) E hW dX1_opened_27 (by omega) (Or.inr ⟨fun ⟨j, h1, h2, h3⟩ => hI j h1 (by omega) h3, rfl, rfl⟩)
      · refine lv_aload_n hx hb dX1_opened_8 rfl (lv_at hl 0 rfl) ?_
        refine o_get E hW in_X1 rfl 1 (by decide) (v := .ref (a 2)) rfl q184 rfl dX1_opened_9 ?_
        refine lv_iload_n hx hb dX1_opened_12 rfl (lv_at hl 2 rfl) ?_
        have h_13 := hB2 i (by omega) (by omega)
        refine o_ld E hW 2 ⟨by decide, rfl⟩ (by omega) (by omega) (by decide) (z := X 2 i) rfl dX1_opened_13 ?_
        refine lv_iload_n hx hb dX1_opened_14 rfl (lv_at hl 1 rfl) ?_
        refine o_cne (tgt := 20) hx hb dX1_opened_15 (by decide) (by omega) (by omega) (fun c_15 => ?_) (fun c_15 => ?_)
        · refine o_iinc (lv' := [(2, .int (iI (i + 1))), (0, .ref h), (1, .int (iI oo))]) hx hb dX1_opened_20 hl (k := 2) rfl (by decide) rfl (fun ls hl => ?_)
          refine lv_goto (tgt := 2) hx hb dX1_opened_23 (by decide) ?_
          exact ih (i + 1)  _ _ _ (by omega) ⟨by omega, by omega⟩ (fun j h1 h2 => by rcases Int.lt_or_eq_of_le (show j ≤ i by omega) with q | q <;> first | exact hI j h1 q | (subst q; omega)) hW (lv_sub hl [1, 2, 0] rfl)
        · refine o_iconst hx hb dX1_opened_18 ?_
          exact o_zret (z := 1) E hW dX1_opened_19 (by omega) (Or.inl ⟨⟨i, by omega, by omega, by omega⟩, rfl, rfl⟩)
  exact lp_2 25 0  _ _ _ (by omega) ⟨by omega, by omega⟩ (fun j h1 h2 => absurd h1 (by omega)) hW (lv_sub hl [1, 2, 0] rfl)
set_option maxHeartbeats 4000000 in
/-- hasOpening -/
theorem mm_hasOpening (l : Launch) (D : va_G) (cI cZ : ClassId) (h : Nat) (a : Nat → Nat) (X : oS) (ss : Int) (ww : Int) (hs : ii_r ss) (hw : ii_r ww) (hB2 : rg X 2 24 (-1) 23) (hB3 : rg X 3 24 0 2) (hB4 : rg X 4 24 0 27) : oC dM l yX1_hasOpening cX1_hasOpening 5 (some .boolean) 1 22 D cI cZ h a X [.int (iI ss), .int (iI ww)] (fun z u => (hop X ss ww ∧ z = 1 ∧ X = u) ∨ (¬ hop X ss ww ∧ z = 0 ∧ X = u)) := by
  refine oC_of (own := RX1) (by decide) rfl (Nat.le_of_ble_eq_true rfl) rfl ?_
  intro p e s m below meth c ls A E hW hl
  have hx := E.1
  have hb := E.2.1
  have hl : lv_has ls 5 [(0, .ref h), (1, .int (iI ss)), (2, .int (iI ww))] := hl
  refine o_iconst hx hb dX1_hasOpening_0 ?_
  refine lv_istore_n (lv' := [(3, .int (iI 0)), (0, .ref h), (1, .int (iI ss)), (2, .int (iI ww))]) hx hb dX1_hasOpening_1 rfl hl (by decide) rfl (fun ls hl => ?_)
  have lp_2 : ∀ (n : Nat) (i : Int)  (H : Heap) (locs : List Loc) (ls : Array Slot), 24 - i < (n : Int) → (0 ≤ i ∧ i ≤ 24) → (∀ j, 0 ≤ j → j < i → ¬ hq1 X ss ww j) → mW dM D cI cZ h a A s X H locs → lv_has ls 5 [(0, .ref h), (1, .int (iI ss)), (2, .int (iI ww)), (3, .int (iI i))] → W p l e ({ frames := 1, cells := 0, slots := 0, locals := 22 }) s m (Value.ref h :: [.int (iI ss), .int (iI ww)]).toArray below meth c H locs 0 0 (MQ below (oQc dM D cI cZ h a A (fun z u => (hop X ss ww ∧ z = 1 ∧ X = u) ∨ (¬ hop X ss ww ∧ z = 0 ∧ X = u))) (Value.ref h :: [.int (iI ss), .int (iI ww)]).toArray s 0 0 A) (F0 m 2 ls []) := by
    intro n
    induction n with
    | zero =>
      intro i H locs ls hn hi hI hW hl
      exfalso
      omega
    | succ n ih =>
      intro i H locs ls hn hi hI hW hl
      refine lv_iload_n hx hb dX1_hasOpening_2 rfl (lv_at hl 3 rfl) ?_
      refine o_bipush hx hb dX1_hasOpening_3 (by decide) ?_
      refine o_cge (tgt := 78) hx hb dX1_hasOpening_5 (by decide) (by omega) (by omega) (fun c_5 => ?_) (fun c_5 => ?_)
      · refine o_iconst hx hb dX1_hasOpening_78 ?_
        exact o_zret (z := 0) E hW dX1_hasOpening_79 (by omega) (Or.inr ⟨fun ⟨j, h1, h2, h3⟩ => hI j h1 (by omega) h3, rfl, rfl⟩)
      · refine lv_iload_n hx hb dX1_hasOpening_8 rfl (lv_at hl 1 rfl) ?_
        refine o_iconst hx hb dX1_hasOpening_9 ?_
        refine o_cne (tgt := 30) hx hb dX1_hasOpening_10 (by decide) (by omega) (by omega) (fun c_10 => ?_) (fun c_10 => ?_)
        · refine lv_aload_n hx hb dX1_hasOpening_30 rfl (lv_at hl 0 rfl) ?_
          refine o_get E hW in_X1 rfl 2 (by decide) (v := .ref (a 3)) rfl q185 rfl dX1_hasOpening_31 ?_
          refine lv_iload_n hx hb dX1_hasOpening_34 rfl (lv_at hl 3 rfl) ?_
          have h_35 := hB3 i (by omega) (by omega)
          refine o_ld E hW 3 ⟨by decide, rfl⟩ (by omega) (by omega) (by decide) (z := X 3 i) rfl dX1_hasOpening_35 ?_
          refine lv_iload_n hx hb dX1_hasOpening_36 rfl (lv_at hl 1 rfl) ?_
          refine o_cne (tgt := 44) hx hb dX1_hasOpening_37 (by decide) (by omega) (by omega) (fun c_37 => ?_) (fun c_37 => ?_)
          · refine o_iconst hx hb dX1_hasOpening_44 ?_
            refine lv_istore (lv' := [(4, .int (iI 0)), (0, .ref h), (1, .int (iI ss)), (2, .int (iI ww)), (3, .int (iI i))]) hx hb dX1_hasOpening_45 hl (by decide) rfl (fun ls hl => ?_)
            refine lv_iload hx hb dX1_hasOpening_47 (lv_at hl 0 rfl) ?_
            refine o_ifeq (tgt := 72) hx hb dX1_hasOpening_49 (by decide) (by omega) (fun _ => ?_) (fun q => absurd q (by decide))
            refine o_iinc (lv' := [(3, .int (iI (i + 1))), (4, .int (iI 0)), (0, .ref h), (1, .int (iI ss)), (2, .int (iI ww))]) hx hb dX1_hasOpening_72 hl (k := 4) rfl (by decide) rfl (fun ls hl => ?_)
            refine lv_goto (tgt := 2) hx hb dX1_hasOpening_75 (by decide) ?_
            exact ih (i + 1)  _ _ _ (by omega) ⟨by omega, by omega⟩ (fun j h1 h2 => by rcases Int.lt_or_eq_of_le (show j ≤ i by omega) with q | q <;> first | exact hI j h1 q | (subst q; (rintro ⟨g1, g2, g3⟩; omega))) hW (lv_sub hl [2, 3, 4, 0] rfl)
          · refine o_iconst hx hb dX1_hasOpening_40 ?_
            refine lv_goto (tgt := 45) hx hb dX1_hasOpening_41 (by decide) ?_
            refine lv_istore (lv' := [(4, .int (iI 1)), (0, .ref h), (1, .int (iI ss)), (2, .int (iI ww)), (3, .int (iI i))]) hx hb dX1_hasOpening_45 hl (by decide) rfl (fun ls hl => ?_)
            refine lv_iload hx hb dX1_hasOpening_47 (lv_at hl 0 rfl) ?_
            refine o_ifeq (tgt := 72) hx hb dX1_hasOpening_49 (by decide) (by omega) (fun q => absurd q (by decide)) (fun _ => ?_)
            refine lv_aload_n hx hb dX1_hasOpening_52 rfl (lv_at hl 1 rfl) ?_
            refine o_get E hW in_X1 rfl 3 (by decide) (v := .ref (a 4)) rfl q186 rfl dX1_hasOpening_53 ?_
            refine lv_iload_n hx hb dX1_hasOpening_56 rfl (lv_at hl 4 rfl) ?_
            have h_57 := hB4 i (by omega) (by omega)
            refine o_ld E hW 4 ⟨by decide, rfl⟩ (by omega) (by omega) (by decide) (z := X 4 i) rfl dX1_hasOpening_57 ?_
            refine lv_iload_n hx hb dX1_hasOpening_58 rfl (lv_at hl 3 rfl) ?_
            refine o_cne (tgt := 72) hx hb dX1_hasOpening_59 (by decide) (by omega) (by omega) (fun c_59 => ?_) (fun c_59 => ?_)
            · refine o_iinc (lv' := [(3, .int (iI (i + 1))), (4, .int (iI 1)), (0, .ref h), (1, .int (iI ss)), (2, .int (iI ww))]) hx hb dX1_hasOpening_72 hl (k := 4) rfl (by decide) rfl (fun ls hl => ?_)
              refine lv_goto (tgt := 2) hx hb dX1_hasOpening_75 (by decide) ?_
              exact ih (i + 1)  _ _ _ (by omega) ⟨by omega, by omega⟩ (fun j h1 h2 => by rcases Int.lt_or_eq_of_le (show j ≤ i by omega) with q | q <;> first | exact hI j h1 q | (subst q; (rintro ⟨g1, g2, g3⟩; omega))) hW (lv_sub hl [2, 3, 4, 0] rfl)
            · refine lv_aload_n hx hb dX1_hasOpening_62 rfl (lv_at hl 1 rfl) ?_
              refine lv_iload_n hx hb dX1_hasOpening_63 rfl (lv_at hl 4 rfl) ?_
              refine o_call (nA := 1) (As := [.int (iI i)]) (rest := []) E hW hl (mm_opened l D cI cZ h a X i (by omega) hB2) (lw_V q241 q243 qs16 q22 q244) rfl (by decide +kernel) rfl ⟨Nat.le_of_ble_eq_true rfl, Nat.le_of_ble_eq_true rfl⟩ rfl (Nat.le_of_ble_eq_true rfl) ⟨Nat.le_of_ble_eq_true rfl, Nat.le_of_ble_eq_true rfl⟩ dX1_hasOpening_64 (fun z_64 X_64 H locs hq hW => ?_)
              rcases hq with ⟨q_64, rfl, rfl⟩ | ⟨q_64, rfl, rfl⟩
              · refine o_ifeq (tgt := 72) hx hb dX1_hasOpening_67 (by decide) (by omega) (fun q => absurd q (by decide)) (fun _ => ?_)
                refine o_iconst hx hb dX1_hasOpening_70 ?_
                exact o_zret (z := 1) E hW dX1_hasOpening_71 (by omega) (Or.inl ⟨⟨i, by omega, by omega, by omega, by omega, q_64⟩, rfl, rfl⟩)
              · refine o_ifeq (tgt := 72) hx hb dX1_hasOpening_67 (by decide) (by omega) (fun _ => ?_) (fun q => absurd q (by decide))
                refine o_iinc (lv' := [(3, .int (iI (i + 1))), (4, .int (iI 1)), (0, .ref h), (1, .int (iI ss)), (2, .int (iI ww))]) hx hb dX1_hasOpening_72 hl (k := 4) rfl (by decide) rfl (fun ls hl => ?_)
                refine lv_goto (tgt := 2) hx hb dX1_hasOpening_75 (by decide) ?_
                exact ih (i + 1)  _ _ _ (by omega) ⟨by omega, by omega⟩ (fun j h1 h2 => by rcases Int.lt_or_eq_of_le (show j ≤ i by omega) with q | q <;> first | exact hI j h1 q | (subst q; (rintro ⟨g1, g2, g3⟩; exact q_64 g3))) hW (lv_sub hl [2, 3, 4, 0] rfl)
        · refine lv_aload_n hx hb dX1_hasOpening_13 rfl (lv_at hl 0 rfl) ?_
          refine o_get E hW in_X1 rfl 2 (by decide) (v := .ref (a 3)) rfl q185 rfl dX1_hasOpening_14 ?_
          refine lv_iload_n hx hb dX1_hasOpening_17 rfl (lv_at hl 3 rfl) ?_
          have h_18 := hB3 i (by omega) (by omega)
          refine o_ld E hW 3 ⟨by decide, rfl⟩ (by omega) (by omega) (by decide) (z := X 3 i) rfl dX1_hasOpening_18 ?_
          refine o_ifle (tgt := 26) hx hb dX1_hasOpening_19 (by decide) (by omega) (fun c_19 => ?_) (fun c_19 => ?_)
          · refine o_iconst hx hb dX1_hasOpening_26 ?_
            refine lv_goto (tgt := 45) hx hb dX1_hasOpening_27 (by decide) ?_
            refine lv_istore (lv' := [(4, .int (iI 0)), (0, .ref h), (1, .int (iI ss)), (2, .int (iI ww)), (3, .int (iI i))]) hx hb dX1_hasOpening_45 hl (by decide) rfl (fun ls hl => ?_)
            refine lv_iload hx hb dX1_hasOpening_47 (lv_at hl 0 rfl) ?_
            refine o_ifeq (tgt := 72) hx hb dX1_hasOpening_49 (by decide) (by omega) (fun _ => ?_) (fun q => absurd q (by decide))
            refine o_iinc (lv' := [(3, .int (iI (i + 1))), (4, .int (iI 0)), (0, .ref h), (1, .int (iI ss)), (2, .int (iI ww))]) hx hb dX1_hasOpening_72 hl (k := 4) rfl (by decide) rfl (fun ls hl => ?_)
            refine lv_goto (tgt := 2) hx hb dX1_hasOpening_75 (by decide) ?_
            exact ih (i + 1)  _ _ _ (by omega) ⟨by omega, by omega⟩ (fun j h1 h2 => by rcases Int.lt_or_eq_of_le (show j ≤ i by omega) with q | q <;> first | exact hI j h1 q | (subst q; (rintro ⟨g1, g2, g3⟩; omega))) hW (lv_sub hl [2, 3, 4, 0] rfl)
          · refine o_iconst hx hb dX1_hasOpening_22 ?_
            refine lv_goto (tgt := 45) hx hb dX1_hasOpening_23 (by decide) ?_
            refine lv_istore (lv' := [(4, .int (iI 1)), (0, .ref h), (1, .int (iI ss)), (2, .int (iI ww)), (3, .int (iI i))]) hx hb dX1_hasOpening_45 hl (by decide) rfl (fun ls hl => ?_)
            refine lv_iload hx hb dX1_hasOpening_47 (lv_at hl 0 rfl) ?_
            refine o_ifeq (tgt := 72) hx hb dX1_hasOpening_49 (by decide) (by omega) (fun q => absurd q (by decide)) (fun _ => ?_)
            refine lv_aload_n hx hb dX1_hasOpening_52 rfl (lv_at hl 1 rfl) ?_
            refine o_get E hW in_X1 rfl 3 (by decide) (v := .ref (a 4)) rfl q186 rfl dX1_hasOpening_53 ?_
            refine lv_iload_n hx hb dX1_hasOpening_56 rfl (lv_at hl 4 rfl) ?_
            have h_57 := hB4 i (by omega) (by omega)
            refine o_ld E hW 4 ⟨by decide, rfl⟩ (by omega) (by omega) (by decide) (z := X 4 i) rfl dX1_hasOpening_57 ?_
            refine lv_iload_n hx hb dX1_hasOpening_58 rfl (lv_at hl 3 rfl) ?_
            refine o_cne (tgt := 72) hx hb dX1_hasOpening_59 (by decide) (by omega) (by omega) (fun c_59 => ?_) (fun c_59 => ?_)
            · refine o_iinc (lv' := [(3, .int (iI (i + 1))), (4, .int (iI 1)), (0, .ref h), (1, .int (iI ss)), (2, .int (iI ww))]) hx hb dX1_hasOpening_72 hl (k := 4) rfl (by decide) rfl (fun ls hl => ?_)
              refine lv_goto (tgt := 2) hx hb dX1_hasOpening_75 (by decide) ?_
              exact ih (i + 1)  _ _ _ (by omega) ⟨by omega, by omega⟩ (fun j h1 h2 => by rcases Int.lt_or_eq_of_le (show j ≤ i by omega) with q | q <;> first | exact hI j h1 q | (subst q; (rintro ⟨g1, g2, g3⟩; omega))) hW (lv_sub hl [2, 3, 4, 0] rfl)
            · refine lv_aload_n hx hb dX1_hasOpening_62 rfl (lv_at hl 1 rfl) ?_
              refine lv_iload_n hx hb dX1_hasOpening_63 rfl (lv_at hl 4 rfl) ?_
              refine o_call (nA := 1) (As := [.int (iI i)]) (rest := []) E hW hl (mm_opened l D cI cZ h a X i (by omega) hB2) (lw_V q241 q243 qs16 q22 q244) rfl (by decide +kernel) rfl ⟨Nat.le_of_ble_eq_true rfl, Nat.le_of_ble_eq_true rfl⟩ rfl (Nat.le_of_ble_eq_true rfl) ⟨Nat.le_of_ble_eq_true rfl, Nat.le_of_ble_eq_true rfl⟩ dX1_hasOpening_64 (fun z_64 X_64 H locs hq hW => ?_)
              rcases hq with ⟨q_64, rfl, rfl⟩ | ⟨q_64, rfl, rfl⟩
              · refine o_ifeq (tgt := 72) hx hb dX1_hasOpening_67 (by decide) (by omega) (fun q => absurd q (by decide)) (fun _ => ?_)
                refine o_iconst hx hb dX1_hasOpening_70 ?_
                exact o_zret (z := 1) E hW dX1_hasOpening_71 (by omega) (Or.inl ⟨⟨i, by omega, by omega, by omega, by omega, q_64⟩, rfl, rfl⟩)
              · refine o_ifeq (tgt := 72) hx hb dX1_hasOpening_67 (by decide) (by omega) (fun _ => ?_) (fun q => absurd q (by decide))
                refine o_iinc (lv' := [(3, .int (iI (i + 1))), (4, .int (iI 1)), (0, .ref h), (1, .int (iI ss)), (2, .int (iI ww))]) hx hb dX1_hasOpening_72 hl (k := 4) rfl (by decide) rfl (fun ls hl => ?_)
                refine lv_goto (tgt := 2) hx hb dX1_hasOpening_75 (by decide) ?_
                exact ih (i + 1)  _ _ _ (by omega) ⟨by omega, by omega⟩ (fun j h1 h2 => by rcases Int.lt_or_eq_of_le (show j ≤ i by omega) with q | q <;> first | exact hI j h1 q | (subst q; (rintro ⟨g1, g2, g3⟩; exact q_64 g3))) hW (lv_sub hl [2, 3, 4, 0] rfl)
  exact lp_2 25 0  _ _ _ (by omega) ⟨by omega, by omega⟩ (fun j h1 h2 => absurd h1 (by omega)) hW (lv_sub hl [1, 2, 3, 0] rfl)
set_option maxHeartbeats 4000000 in
/-- isFile -/
theorem mm_isFile (l : Launch) (D : va_G) (cI cZ : ClassId) (h : Nat) (a : Nat → Nat) (X : oS) (ff : Int) (hf : ii_r ff) (hB2 : rg X 2 24 (-1) 23) (hB3 : rg X 3 24 0 2) (hB4 : rg X 4 24 0 27) (hB6 : rg X 6 4 (-1) 27) : oC dM l yX1_isFile cX1_isFile 3 (some .boolean) 2 46 D cI cZ h a X [.int (iI ff)] (fun z u => (isf X ff ∧ z = 1 ∧ X = u) ∨ (¬ isf X ff ∧ z = 0 ∧ X = u)) := by
  refine oC_of (own := RX1) (by decide) rfl (Nat.le_of_ble_eq_true rfl) rfl ?_
  intro p e s m below meth c ls A E hW hl
  have hx := E.1
  have hb := E.2.1
  have hl : lv_has ls 3 [(0, .ref h), (1, .int (iI ff))] := hl
  refine o_iconst hx hb dX1_isFile_0 ?_
  refine lv_istore_n (lv' := [(2, .int (iI 0)), (0, .ref h), (1, .int (iI ff))]) hx hb dX1_isFile_1 rfl hl (by decide) rfl (fun ls hl => ?_)
  have lp_2 : ∀ (n : Nat) (i : Int)  (H : Heap) (locs : List Loc) (ls : Array Slot), 4 - i < (n : Int) → (0 ≤ i ∧ i ≤ 4) → (∀ j, 0 ≤ j → j < i → X 6 j ≠ ff) → mW dM D cI cZ h a A s X H locs → lv_has ls 3 [(0, .ref h), (1, .int (iI ff)), (2, .int (iI i))] → W p l e ({ frames := 2, cells := 0, slots := 0, locals := 46 }) s m (Value.ref h :: [.int (iI ff)]).toArray below meth c H locs 0 0 (MQ below (oQc dM D cI cZ h a A (fun z u => (isf X ff ∧ z = 1 ∧ X = u) ∨ (¬ isf X ff ∧ z = 0 ∧ X = u))) (Value.ref h :: [.int (iI ff)]).toArray s 0 0 A) (F0 m 2 ls []) := by
    intro n
    induction n with
    | zero =>
      intro i H locs ls hn hi hI hW hl
      exfalso
      omega
    | succ n ih =>
      intro i H locs ls hn hi hI hW hl
      refine lv_iload_n hx hb dX1_isFile_2 rfl (lv_at hl 2 rfl) ?_
      refine o_iconst hx hb dX1_isFile_3 ?_
      refine o_cge (tgt := 25) hx hb dX1_isFile_4 (by decide) (by omega) (by omega) (fun c_4 => ?_) (fun c_4 => ?_)
      · refine lv_aload_n hx hb dX1_isFile_25 rfl (lv_at hl 0 rfl) ?_
        refine o_iconst hx hb dX1_isFile_26 ?_
        refine lv_iload_n hx hb dX1_isFile_27 rfl (lv_at hl 1 rfl) ?_
        refine o_call (nA := 2) (As := [.int (iI 0), .int (iI ff)]) (rest := []) E hW hl (mm_hasOpening l D cI cZ h a X 0 ff (by omega) hf hB2 hB3 hB4) (lw_V q237 q239 qs15 q22 q240) rfl (by decide +kernel) rfl ⟨Nat.le_of_ble_eq_true rfl, Nat.le_of_ble_eq_true rfl⟩ rfl (Nat.le_of_ble_eq_true rfl) ⟨Nat.le_of_ble_eq_true rfl, Nat.le_of_ble_eq_true rfl⟩ dX1_isFile_28 (fun z_28 X_28 H locs hq hW => ?_)
        rcases hq with ⟨q_28, rfl, rfl⟩ | ⟨q_28, rfl, rfl⟩
        · exact o_zret (z := 1) E hW dX1_isFile_31 (by omega) (Or.inl ⟨Or.inr q_28, rfl, rfl⟩)
        · exact o_zret (z := 0) E hW dX1_isFile_31 (by omega) (Or.inr ⟨fun g => Or.elim (show (∃ n, 0 ≤ n ∧ n < 4 ∧ X 6 n = ff) ∨ hop X 0 ff from g) (fun ⟨j, h1, h2, h3⟩ => hI j h1 (by omega) h3) q_28, rfl, rfl⟩)
      · refine lv_aload_n hx hb dX1_isFile_7 rfl (lv_at hl 0 rfl) ?_
        refine o_get E hW in_X1 rfl 5 (by decide) (v := .ref (a 6)) rfl q188 rfl dX1_isFile_8 ?_
        refine lv_iload_n hx hb dX1_isFile_11 rfl (lv_at hl 2 rfl) ?_
        have h_12 := hB6 i (by omega) (by omega)
        refine o_ld E hW 6 ⟨by decide, rfl⟩ (by omega) (by omega) (by decide) (z := X 6 i) rfl dX1_isFile_12 ?_
        refine lv_iload_n hx hb dX1_isFile_13 rfl (lv_at hl 1 rfl) ?_
        refine o_cne (tgt := 19) hx hb dX1_isFile_14 (by decide) (by omega) (by omega) (fun c_14 => ?_) (fun c_14 => ?_)
        · refine o_iinc (lv' := [(2, .int (iI (i + 1))), (0, .ref h), (1, .int (iI ff))]) hx hb dX1_isFile_19 hl (k := 2) rfl (by decide) rfl (fun ls hl => ?_)
          refine lv_goto (tgt := 2) hx hb dX1_isFile_22 (by decide) ?_
          exact ih (i + 1)  _ _ _ (by omega) ⟨by omega, by omega⟩ (fun j h1 h2 => by rcases Int.lt_or_eq_of_le (show j ≤ i by omega) with q | q <;> first | exact hI j h1 q | (subst q; omega)) hW (lv_sub hl [1, 2, 0] rfl)
        · refine o_iconst hx hb dX1_isFile_17 ?_
          exact o_zret (z := 1) E hW dX1_isFile_18 (by omega) (Or.inl ⟨Or.inl ⟨i, by omega, by omega, by omega⟩, rfl, rfl⟩)
  exact lp_2 5 0  _ _ _ (by omega) ⟨by omega, by omega⟩ (fun j h1 h2 => absurd h1 (by omega)) hW (lv_sub hl [1, 2, 0] rfl)
set_option maxHeartbeats 4000000 in
/-- leastFree -/
theorem mm_leastFree (l : Launch) (D : va_G) (cI cZ : ClassId) (h : Nat) (a : Nat → Nat) (X : oS) (pp : Int) (hp : 0 ≤ pp ∧ pp ≤ 3) (hB2 : rg X 2 24 (-1) 23) : oC dM l yX1_leastFree cX1_leastFree 3 (some .int) 0 0 D cI cZ h a X [.int (iI pp)] (fun z u => (z = -1 ∧ X = u ∧ nfd X pp 0) ∨ (0 ≤ z ∧ X = u ∧ lfd X pp 0 z)) := by
  refine oC_of (own := RX1) (by decide) rfl (Nat.le_of_ble_eq_true rfl) rfl ?_
  intro p e s m below meth c ls A E hW hl
  have hx := E.1
  have hb := E.2.1
  have hl : lv_has ls 3 [(0, .ref h), (1, .int (iI pp))] := hl
  refine o_iconst hx hb dX1_leastFree_0 ?_
  refine lv_istore_n (lv' := [(2, .int (iI 0)), (0, .ref h), (1, .int (iI pp))]) hx hb dX1_leastFree_1 rfl hl (by decide) rfl (fun ls hl => ?_)
  have lp_2 : ∀ (n : Nat) (i : Int)  (H : Heap) (locs : List Loc) (ls : Array Slot), 6 - i < (n : Int) → (0 ≤ i ∧ i ≤ 6) → (∀ d, 0 ≤ d → d < i → 0 ≤ X 2 (6 * pp + d)) → mW dM D cI cZ h a A s X H locs → lv_has ls 3 [(0, .ref h), (1, .int (iI pp)), (2, .int (iI i))] → W p l e ({ frames := 0, cells := 0, slots := 0, locals := 0 }) s m (Value.ref h :: [.int (iI pp)]).toArray below meth c H locs 0 0 (MQ below (oQc dM D cI cZ h a A (fun z u => (z = -1 ∧ X = u ∧ nfd X pp 0) ∨ (0 ≤ z ∧ X = u ∧ lfd X pp 0 z))) (Value.ref h :: [.int (iI pp)]).toArray s 0 0 A) (F0 m 2 ls []) := by
    intro n
    induction n with
    | zero =>
      intro i H locs ls hn hi hI hW hl
      exfalso
      omega
    | succ n ih =>
      intro i H locs ls hn hi hI hW hl
      refine lv_iload_n hx hb dX1_leastFree_2 rfl (lv_at hl 2 rfl) ?_
      refine o_bipush hx hb dX1_leastFree_3 (by decide) ?_
      refine o_cge (tgt := 30) hx hb dX1_leastFree_5 (by decide) (by omega) (by omega) (fun c_5 => ?_) (fun c_5 => ?_)
      · refine o_iconst hx hb dX1_leastFree_30 ?_
        exact o_ret (z := (-1)) E hW dX1_leastFree_31 (Or.inl ⟨rfl, rfl, fun d h1 h2 => hI d h1 (by omega)⟩)
      · refine lv_aload_n hx hb dX1_leastFree_8 rfl (lv_at hl 0 rfl) ?_
        refine o_get E hW in_X1 rfl 1 (by decide) (v := .ref (a 2)) rfl q184 rfl dX1_leastFree_9 ?_
        refine o_bipush hx hb dX1_leastFree_12 (by decide) ?_
        refine lv_iload_n hx hb dX1_leastFree_14 rfl (lv_at hl 1 rfl) ?_
        refine o_imul hx hb dX1_leastFree_15 ?_
        refine lv_iload_n hx hb dX1_leastFree_16 rfl (lv_at hl 2 rfl) ?_
        refine o_iadd hx hb dX1_leastFree_17 ?_
        have h_18 := hB2 ((6 * pp) + i) (by omega) (by omega)
        refine o_ld E hW 2 ⟨by decide, rfl⟩ (by omega) (by omega) (by decide) (z := X 2 ((6 * pp) + i)) rfl dX1_leastFree_18 ?_
        refine o_ifge (tgt := 24) hx hb dX1_leastFree_19 (by decide) (by omega) (fun c_19 => ?_) (fun c_19 => ?_)
        · refine o_iinc (lv' := [(2, .int (iI (i + 1))), (0, .ref h), (1, .int (iI pp))]) hx hb dX1_leastFree_24 hl (k := 2) rfl (by decide) rfl (fun ls hl => ?_)
          refine lv_goto (tgt := 2) hx hb dX1_leastFree_27 (by decide) ?_
          exact ih (i + 1)  _ _ _ (by omega) ⟨by omega, by omega⟩ (fun j h1 h2 => by rcases Int.lt_or_eq_of_le (show j ≤ i by omega) with q | q <;> first | exact hI j h1 q | (subst q; omega)) hW (lv_sub hl [1, 2, 0] rfl)
        · refine lv_iload_n hx hb dX1_leastFree_22 rfl (lv_at hl 2 rfl) ?_
          exact o_ret (z := i) E hW dX1_leastFree_23 (Or.inr ⟨by omega, rfl, by omega, by omega, by omega, hI⟩)
  exact lp_2 7 0  _ _ _ (by omega) ⟨by omega, by omega⟩ (fun d h1 h2 => absurd h1 (by omega)) hW (lv_sub hl [1, 2, 0] rfl)
set_option maxHeartbeats 4000000 in
/-- lead -/
theorem mm_lead (l : Launch) (D : va_G) (cI cZ : ClassId) (h : Nat) (a : Nat → Nat) (X : oS) (pp : Int) (ss : Int) (ww : Int) (hp : 0 ≤ pp ∧ pp ≤ 3) (hB2 : rg X 2 24 (-1) 23) (hf : ∃ d, 0 ≤ d ∧ d < 6 ∧ X 2 (6 * pp + d) < 0) (hu : ∃ o, 0 ≤ o ∧ o < 24 ∧ ¬ opd X o) : oC dM l yX1_lead cX1_lead 6 (some .int) 1 22 D cI cZ h a X [.int (iI pp), .int (iI ss), .int (iI ww)] (fun z u => lfd X pp 0 z ∧ ∃ o, luo X o ∧ u = mld X pp z o ss ww) := by
  refine oC_of (own := RX1) (by decide) rfl (Nat.le_of_ble_eq_true rfl) rfl ?_
  intro p e s m below meth c ls A E hW hl
  have hx := E.1
  have hb := E.2.1
  have hl : lv_has ls 6 [(0, .ref h), (1, .int (iI pp)), (2, .int (iI ss)), (3, .int (iI ww))] := hl
  refine lv_aload_n hx hb dX1_lead_0 rfl (lv_at hl 0 rfl) ?_
  refine lv_iload_n hx hb dX1_lead_1 rfl (lv_at hl 1 rfl) ?_
  refine o_call (nA := 1) (As := [.int (iI pp)]) (rest := []) E hW hl (mm_leastFree l D cI cZ h a X pp hp hB2) (lw_V q225 q227 qs12 q22 q228) rfl (by decide +kernel) rfl ⟨Nat.le_of_ble_eq_true rfl, Nat.le_of_ble_eq_true rfl⟩ rfl (Nat.le_of_ble_eq_true rfl) ⟨Nat.le_of_ble_eq_true rfl, Nat.le_of_ble_eq_true rfl⟩ dX1_lead_2 (fun z_2 X_2 H locs hq hW => ?_)
  rcases hq with ⟨rfl, rfl, q_2⟩ | ⟨r_2, rfl, s_2, t_2, u_2, q_2⟩
  · obtain ⟨d, h1, h2, h3⟩ := hf
    have := q_2 d h1 h2
    exfalso
    omega
  · refine lv_istore (lv' := [(4, .int (iI z_2)), (0, .ref h), (1, .int (iI pp)), (2, .int (iI ss)), (3, .int (iI ww))]) hx hb dX1_lead_5 hl (by decide) rfl (fun ls hl => ?_)
    refine o_iconst hx hb dX1_lead_7 ?_
    refine lv_istore (lv' := [(5, .int (iI 0)), (4, .int (iI z_2)), (0, .ref h), (1, .int (iI pp)), (2, .int (iI ss)), (3, .int (iI ww))]) hx hb dX1_lead_8 hl (by decide) rfl (fun ls hl => ?_)
    have lp_10 : ∀ (n : Nat) (i : Int)  (H : Heap) (locs : List Loc) (ls : Array Slot), 24 - i < (n : Int) → (0 ≤ i ∧ i ≤ 24) → (∀ j, 0 ≤ j → j < i → opd X j) → mW dM D cI cZ h a A s X H locs → lv_has ls 6 [(0, .ref h), (1, .int (iI pp)), (2, .int (iI ss)), (3, .int (iI ww)), (4, .int (iI z_2)), (5, .int (iI i))] → W p l e ({ frames := 1, cells := 0, slots := 0, locals := 22 }) s m (Value.ref h :: [.int (iI pp), .int (iI ss), .int (iI ww)]).toArray below meth c H locs 0 0 (MQ below (oQc dM D cI cZ h a A (fun z u => lfd X pp 0 z ∧ ∃ o, luo X o ∧ u = mld X pp z o ss ww)) (Value.ref h :: [.int (iI pp), .int (iI ss), .int (iI ww)]).toArray s 0 0 A) (F0 m 10 ls []) := by
      intro n
      induction n with
      | zero =>
        intro i H locs ls hn hi hI hW hl
        exfalso
        omega
      | succ n ih =>
        intro i H locs ls hn hi hI hW hl
        refine lv_iload hx hb dX1_lead_10 (lv_at hl 5 rfl) ?_
        refine o_bipush hx hb dX1_lead_12 (by decide) ?_
        refine o_cge (tgt := 73) hx hb dX1_lead_14 (by decide) (by omega) (by omega) (fun c_14 => ?_) (fun c_14 => ?_)
        · refine lv_iload hx hb dX1_lead_73 (lv_at hl 4 rfl) ?_
          exact o_ret (z := z_2) E hW dX1_lead_75 (by exfalso; obtain ⟨o, h1, h2, h3⟩ := hu; exact h3 (hI o h1 (by omega)))
        · refine lv_aload_n hx hb dX1_lead_17 rfl (lv_at hl 0 rfl) ?_
          refine lv_iload hx hb dX1_lead_18 (lv_at hl 5 rfl) ?_
          refine o_call (nA := 1) (As := [.int (iI i)]) (rest := []) E hW hl (mm_opened l D cI cZ h a X i (by omega) hB2) (lw_V q241 q243 qs16 q22 q244) rfl (by decide +kernel) rfl ⟨Nat.le_of_ble_eq_true rfl, Nat.le_of_ble_eq_true rfl⟩ rfl (Nat.le_of_ble_eq_true rfl) ⟨Nat.le_of_ble_eq_true rfl, Nat.le_of_ble_eq_true rfl⟩ dX1_lead_20 (fun z_20 X_20 H locs hq hW => ?_)
          rcases hq with ⟨q_20, rfl, rfl⟩ | ⟨q_20, rfl, rfl⟩
          · refine o_ifne (tgt := 67) hx hb dX1_lead_23 (by decide) (by omega) (fun _ => ?_) (fun q => absurd q (by decide))
            refine o_iinc (lv' := [(5, .int (iI (i + 1))), (0, .ref h), (1, .int (iI pp)), (2, .int (iI ss)), (3, .int (iI ww)), (4, .int (iI z_2))]) hx hb dX1_lead_67 hl (k := 5) rfl (by decide) rfl (fun ls hl => ?_)
            refine lv_goto (tgt := 10) hx hb dX1_lead_70 (by decide) ?_
            exact ih (i + 1)  _ _ _ (by omega) ⟨by omega, by omega⟩ (fun j h1 h2 => by rcases Int.lt_or_eq_of_le (show j ≤ i by omega) with q | q <;> first | exact hI j h1 q | (subst q; exact q_20)) hW (lv_sub hl [1, 2, 3, 4, 5, 0] rfl)
          · refine o_ifne (tgt := 67) hx hb dX1_lead_23 (by decide) (by omega) (fun q => absurd q (by decide)) (fun _ => ?_)
            refine lv_aload_n hx hb dX1_lead_26 rfl (lv_at hl 0 rfl) ?_
            refine o_get E hW in_X1 rfl 2 (by decide) (v := .ref (a 3)) rfl q185 rfl dX1_lead_27 ?_
            refine lv_iload hx hb dX1_lead_30 (lv_at hl 5 rfl) ?_
            refine lv_iload_n hx hb dX1_lead_32 rfl (lv_at hl 2 rfl) ?_
            refine o_st E hW 3 ⟨by decide, rfl⟩ (by omega) (by omega) (by decide) dX1_lead_33 (fun H locs hW => ?_)
            refine lv_aload_n hx hb dX1_lead_34 rfl (lv_at hl 0 rfl) ?_
            refine o_get E hW in_X1 rfl 3 (by decide) (v := .ref (a 4)) rfl q186 rfl dX1_lead_35 ?_
            refine lv_iload hx hb dX1_lead_38 (lv_at hl 5 rfl) ?_
            refine lv_iload_n hx hb dX1_lead_40 rfl (lv_at hl 3 rfl) ?_
            refine o_st E hW 4 ⟨by decide, rfl⟩ (by omega) (by omega) (by decide) dX1_lead_41 (fun H locs hW => ?_)
            refine lv_aload_n hx hb dX1_lead_42 rfl (lv_at hl 0 rfl) ?_
            refine o_get E hW in_X1 rfl 4 (by decide) (v := .ref (a 5)) rfl q187 rfl dX1_lead_43 ?_
            refine lv_iload hx hb dX1_lead_46 (lv_at hl 5 rfl) ?_
            refine o_iconst hx hb dX1_lead_48 ?_
            refine o_st E hW 5 ⟨by decide, rfl⟩ (by omega) (by omega) (by decide) dX1_lead_49 (fun H locs hW => ?_)
            refine lv_aload_n hx hb dX1_lead_50 rfl (lv_at hl 0 rfl) ?_
            refine o_get E hW in_X1 rfl 1 (by decide) (v := .ref (a 2)) rfl q184 rfl dX1_lead_51 ?_
            refine o_bipush hx hb dX1_lead_54 (by decide) ?_
            refine lv_iload_n hx hb dX1_lead_56 rfl (lv_at hl 1 rfl) ?_
            refine o_imul hx hb dX1_lead_57 ?_
            refine lv_iload hx hb dX1_lead_58 (lv_at hl 4 rfl) ?_
            refine o_iadd hx hb dX1_lead_60 ?_
            refine lv_iload hx hb dX1_lead_61 (lv_at hl 5 rfl) ?_
            refine o_st E hW 2 ⟨by decide, rfl⟩ (by omega) (by omega) (by decide) dX1_lead_63 (fun H locs hW => ?_)
            refine lv_iload hx hb dX1_lead_64 (lv_at hl 4 rfl) ?_
            exact o_ret (z := z_2) E hW dX1_lead_66 (⟨⟨by omega, by omega, by omega, q_2⟩, i, ⟨by omega, by omega, q_20, hI⟩, rfl⟩)
    exact lp_10 25 0  _ _ _ (by omega) ⟨by omega, by omega⟩ (fun j h1 h2 => absurd h1 (by omega)) hW (lv_sub hl [2, 3, 4, 5, 1, 0] rfl)
set_option maxHeartbeats 4000000 in
/-- newFile -/
theorem mm_newFile (l : Launch) (D : va_G) (cI cZ : ClassId) (h : Nat) (a : Nat → Nat) (X : oS)  (hB2 : rg X 2 24 (-1) 23) (hB3 : rg X 3 24 0 2) (hB4 : rg X 4 24 0 27) (hB6 : rg X 6 4 (-1) 27) (hu : ∃ f, 0 ≤ f ∧ f < 28 ∧ ¬ isf X f) : oC dM l yX1_newFile cX1_newFile 2 (some .int) 3 68 D cI cZ h a X [] (fun z u => lnf X z ∧ u = su X 7 z 0) := by
  refine oC_of (own := RX1) (by decide) rfl (Nat.le_of_ble_eq_true rfl) rfl ?_
  intro p e s m below meth c ls A E hW hl
  have hx := E.1
  have hb := E.2.1
  have hl : lv_has ls 2 [(0, .ref h)] := hl
  refine o_iconst hx hb dX1_newFile_0 ?_
  refine lv_istore_n (lv' := [(1, .int (iI 0)), (0, .ref h)]) hx hb dX1_newFile_1 rfl hl (by decide) rfl (fun ls hl => ?_)
  have lp_2 : ∀ (n : Nat) (i : Int)  (H : Heap) (locs : List Loc) (ls : Array Slot), 28 - i < (n : Int) → (0 ≤ i ∧ i ≤ 28) → (∀ j, 0 ≤ j → j < i → isf X j) → mW dM D cI cZ h a A s X H locs → lv_has ls 2 [(0, .ref h), (1, .int (iI i))] → W p l e ({ frames := 3, cells := 0, slots := 0, locals := 68 }) s m (Value.ref h :: []).toArray below meth c H locs 0 0 (MQ below (oQc dM D cI cZ h a A (fun z u => lnf X z ∧ u = su X 7 z 0)) (Value.ref h :: []).toArray s 0 0 A) (F0 m 2 ls []) := by
    intro n
    induction n with
    | zero =>
      intro i H locs ls hn hi hI hW hl
      exfalso
      omega
    | succ n ih =>
      intro i H locs ls hn hi hI hW hl
      refine lv_iload_n hx hb dX1_newFile_2 rfl (lv_at hl 1 rfl) ?_
      refine o_bipush hx hb dX1_newFile_3 (by decide) ?_
      refine o_cge (tgt := 31) hx hb dX1_newFile_5 (by decide) (by omega) (by omega) (fun c_5 => ?_) (fun c_5 => ?_)
      · refine o_iconst hx hb dX1_newFile_31 ?_
        exact o_ret (z := 0) E hW dX1_newFile_32 (by exfalso; obtain ⟨o, h1, h2, h3⟩ := hu; exact h3 (hI o h1 (by omega)))
      · refine lv_aload_n hx hb dX1_newFile_8 rfl (lv_at hl 0 rfl) ?_
        refine lv_iload_n hx hb dX1_newFile_9 rfl (lv_at hl 1 rfl) ?_
        refine o_call (nA := 1) (As := [.int (iI i)]) (rest := []) E hW hl (mm_isFile l D cI cZ h a X i (by omega) hB2 hB3 hB4 hB6) (lw_V q233 q235 qs14 q22 q236) rfl (by decide +kernel) rfl ⟨Nat.le_of_ble_eq_true rfl, Nat.le_of_ble_eq_true rfl⟩ rfl (Nat.le_of_ble_eq_true rfl) ⟨Nat.le_of_ble_eq_true rfl, Nat.le_of_ble_eq_true rfl⟩ dX1_newFile_10 (fun z_10 X_10 H locs hq hW => ?_)
        rcases hq with ⟨q_10, rfl, rfl⟩ | ⟨q_10, rfl, rfl⟩
        · refine o_ifne (tgt := 25) hx hb dX1_newFile_13 (by decide) (by omega) (fun _ => ?_) (fun q => absurd q (by decide))
          refine o_iinc (lv' := [(1, .int (iI (i + 1))), (0, .ref h)]) hx hb dX1_newFile_25 hl (k := 1) rfl (by decide) rfl (fun ls hl => ?_)
          refine lv_goto (tgt := 2) hx hb dX1_newFile_28 (by decide) ?_
          exact ih (i + 1)  _ _ _ (by omega) ⟨by omega, by omega⟩ (fun j h1 h2 => by rcases Int.lt_or_eq_of_le (show j ≤ i by omega) with q | q <;> first | exact hI j h1 q | (subst q; exact q_10)) hW (lv_sub hl [1, 0] rfl)
        · refine o_ifne (tgt := 25) hx hb dX1_newFile_13 (by decide) (by omega) (fun q => absurd q (by decide)) (fun _ => ?_)
          refine lv_aload_n hx hb dX1_newFile_16 rfl (lv_at hl 0 rfl) ?_
          refine o_get E hW in_X1 rfl 6 (by decide) (v := .ref (a 7)) rfl q189 rfl dX1_newFile_17 ?_
          refine lv_iload_n hx hb dX1_newFile_20 rfl (lv_at hl 1 rfl) ?_
          refine o_iconst hx hb dX1_newFile_21 ?_
          refine o_st E hW 7 ⟨by decide, rfl⟩ (by omega) (by omega) (by decide) dX1_newFile_22 (fun H locs hW => ?_)
          refine lv_iload_n hx hb dX1_newFile_23 rfl (lv_at hl 1 rfl) ?_
          exact o_ret (z := i) E hW dX1_newFile_24 (⟨⟨by omega, by omega, q_10, hI⟩, rfl⟩)
  exact lp_2 29 0  _ _ _ (by omega) ⟨by omega, by omega⟩ (fun j h1 h2 => absurd h1 (by omega)) hW (lv_sub hl [1, 0] rfl)
set_option maxHeartbeats 4000000 in
/-- freeDescriptors -/
theorem mm_freeDescriptors (l : Launch) (D : va_G) (cI cZ : ClassId) (h : Nat) (a : Nat → Nat) (X : oS) (pp : Int) (hp : 0 ≤ pp ∧ pp ≤ 3) (hB2 : rg X 2 24 (-1) 23) : oC dM l yX1_freeDescriptors cX1_freeDescriptors 4 (some .int) 0 0 D cI cZ h a X [.int (iI pp)] (fun z u => z = cp (fun d => X 2 (6 * pp + d) < 0) 6 ∧ X = u) := by
  refine oC_of (own := RX1) (by decide) rfl (Nat.le_of_ble_eq_true rfl) rfl ?_
  intro p e s m below meth c ls A E hW hl
  have hx := E.1
  have hb := E.2.1
  have hl : lv_has ls 4 [(0, .ref h), (1, .int (iI pp))] := hl
  refine o_iconst hx hb dX1_freeDescriptors_0 ?_
  refine lv_istore_n (lv' := [(2, .int (iI 0)), (0, .ref h), (1, .int (iI pp))]) hx hb dX1_freeDescriptors_1 rfl hl (by decide) rfl (fun ls hl => ?_)
  refine o_iconst hx hb dX1_freeDescriptors_2 ?_
  refine lv_istore_n (lv' := [(3, .int (iI 0)), (2, .int (iI 0)), (0, .ref h), (1, .int (iI pp))]) hx hb dX1_freeDescriptors_3 rfl hl (by decide) rfl (fun ls hl => ?_)
  have lp_4 : ∀ (n : Nat) (n1 : Int) (i : Int)  (H : Heap) (locs : List Loc) (ls : Array Slot), 6 - i < (n : Int) → (0 ≤ i ∧ i ≤ 6) → (n1 = cp (fun d => X 2 (6 * pp + d) < 0) i.toNat) → mW dM D cI cZ h a A s X H locs → lv_has ls 4 [(0, .ref h), (1, .int (iI pp)), (2, .int (iI n1)), (3, .int (iI i))] → W p l e ({ frames := 0, cells := 0, slots := 0, locals := 0 }) s m (Value.ref h :: [.int (iI pp)]).toArray below meth c H locs 0 0 (MQ below (oQc dM D cI cZ h a A (fun z u => z = cp (fun d => X 2 (6 * pp + d) < 0) 6 ∧ X = u)) (Value.ref h :: [.int (iI pp)]).toArray s 0 0 A) (F0 m 4 ls []) := by
    intro n
    induction n with
    | zero =>
      intro n1 i H locs ls hn hi hI hW hl
      exfalso
      omega
    | succ n ih =>
      intro n1 i H locs ls hn hi hI hW hl
      refine lv_iload_n hx hb dX1_freeDescriptors_4 rfl (lv_at hl 3 rfl) ?_
      refine o_bipush hx hb dX1_freeDescriptors_5 (by decide) ?_
      refine o_cge (tgt := 33) hx hb dX1_freeDescriptors_7 (by decide) (by omega) (by omega) (fun c_7 => ?_) (fun c_7 => ?_)
      · refine lv_iload_n hx hb dX1_freeDescriptors_33 rfl (lv_at hl 2 rfl) ?_
        exact o_ret (z := n1) E hW dX1_freeDescriptors_34 (⟨by rw [hI, show i = 6 by omega]; rfl, rfl⟩)
      · refine lv_aload_n hx hb dX1_freeDescriptors_10 rfl (lv_at hl 0 rfl) ?_
        refine o_get E hW in_X1 rfl 1 (by decide) (v := .ref (a 2)) rfl q184 rfl dX1_freeDescriptors_11 ?_
        refine o_bipush hx hb dX1_freeDescriptors_14 (by decide) ?_
        refine lv_iload_n hx hb dX1_freeDescriptors_16 rfl (lv_at hl 1 rfl) ?_
        refine o_imul hx hb dX1_freeDescriptors_17 ?_
        refine lv_iload_n hx hb dX1_freeDescriptors_18 rfl (lv_at hl 3 rfl) ?_
        refine o_iadd hx hb dX1_freeDescriptors_19 ?_
        have h_20 := hB2 ((6 * pp) + i) (by omega) (by omega)
        refine o_ld E hW 2 ⟨by decide, rfl⟩ (by omega) (by omega) (by decide) (z := X 2 ((6 * pp) + i)) rfl dX1_freeDescriptors_20 ?_
        refine o_ifge (tgt := 27) hx hb dX1_freeDescriptors_21 (by decide) (by omega) (fun c_21 => ?_) (fun c_21 => ?_)
        · refine o_iinc (lv' := [(3, .int (iI (i + 1))), (0, .ref h), (1, .int (iI pp)), (2, .int (iI n1))]) hx hb dX1_freeDescriptors_27 hl (k := 3) rfl (by decide) rfl (fun ls hl => ?_)
          refine lv_goto (tgt := 4) hx hb dX1_freeDescriptors_30 (by decide) ?_
          exact ih n1 (i + 1)  _ _ _ (by omega) ⟨by omega, by omega⟩ (cp_n (by omega) hI (by omega)) hW (lv_sub hl [1, 2, 3, 0] rfl)
        · refine o_iinc (lv' := [(2, .int (iI (n1 + 1))), (0, .ref h), (1, .int (iI pp)), (3, .int (iI i))]) hx hb dX1_freeDescriptors_24 hl (k := 2) rfl (by decide) rfl (fun ls hl => ?_)
          refine o_iinc (lv' := [(3, .int (iI (i + 1))), (2, .int (iI (n1 + 1))), (0, .ref h), (1, .int (iI pp))]) hx hb dX1_freeDescriptors_27 hl (k := 3) rfl (by decide) rfl (fun ls hl => ?_)
          refine lv_goto (tgt := 4) hx hb dX1_freeDescriptors_30 (by decide) ?_
          exact ih (n1 + 1) (i + 1)  _ _ _ (by omega) ⟨by omega, by omega⟩ (cp_y (by omega) hI (by omega)) hW (lv_sub hl [2, 3, 1, 0] rfl)
  exact lp_4 7 0 0  _ _ _ (by omega) ⟨by omega, by omega⟩ rfl hW (lv_sub hl [2, 3, 1, 0] rfl)
end
section
/-! DescriptorTableModel: the methods that the law calls -/
set_option maxRecDepth 100000
theorem rg_su {X : oS} {k : Nat} {n lo hi i v : Int} (h : rg X k n lo hi) (h1 : lo ≤ v) (h2 : v ≤ hi) : rg (su X k i v) k n lo hi := fun j g1 g2 => by
  by_cases g : j = i
  · rw [g, su_s]; exact ⟨h1, h2⟩
  · rw [su_n g]; exact h j g1 g2
abbrev exd (X : oS) (pp : Int) : Prop := ∃ d, 0 ≤ d ∧ d < 6 ∧ X 2 (6 * pp + d) < 0
abbrev exo (X : oS) : Prop := ∃ o, 0 ≤ o ∧ o < 24 ∧ ¬ opd X o
abbrev exf (X : oS) : Prop := ∃ f, 0 ≤ f ∧ f < 28 ∧ ¬ isf X f
abbrev mq_open (X : oS) (pp nn : Int) : Int → oS → Prop := fun z u =>
  (¬ (al X pp ∧ 0 ≤ nn ∧ nn ≤ 3) ∧ z = -1 ∧ X = u) ∨
  ((al X pp ∧ 0 ≤ nn ∧ nn ≤ 3) ∧ nfd X pp 0 ∧ z = -2 ∧ X = u) ∨
  ((al X pp ∧ 0 ≤ nn ∧ nn ≤ 3) ∧ lfd X pp 0 z ∧ X 6 nn < 0 ∧ ∃ f o, lnf X f ∧ luo X o ∧ u = mld (su (su X 7 f 0) 6 nn f) pp z o 0 f) ∨
  ((al X pp ∧ 0 ≤ nn ∧ nn ≤ 3) ∧ lfd X pp 0 z ∧ 0 ≤ X 6 nn ∧ ∃ o, luo X o ∧ u = mld X pp z o 0 (X 6 nn))
abbrev fpp (X : oS) (q : Int) : Prop := 0 ≤ q ∧ q ≤ 23 ∧ (∀ j, 0 ≤ j → j < q → hop X 3 j) ∧ (q < 23 → ¬ hop X 3 q)
noncomputable abbrev mfc (X : oS) (pp : Int) : Int := cp (fun d => X 2 (6 * pp + d) < 0) 6
abbrev mq_pipe (X : oS) (pp : Int) : Int → oS → Prop := fun z u =>
  (¬ al X pp ∧ z = -1 ∧ X = u) ∨ (al X pp ∧ mfc X pp < 2 ∧ z = -2 ∧ X = u) ∨
  (al X pp ∧ 2 ≤ mfc X pp ∧ ∃ q r o1 w o2, fpp X q ∧ lfd X pp 0 r ∧ luo X o1 ∧ lfd (mld (su X 9 q 0) pp r o1 1 q) pp 0 w ∧ luo (mld (su X 9 q 0) pp r o1 1 q) o2 ∧ z = 8 * r + w ∧ u = mld (mld (su X 9 q 0) pp r o1 1 q) pp w o2 2 q)
abbrev mq_dup (X : oS) (pp dd : Int) : Int → oS → Prop := fun z u =>
  (¬ hasD X pp dd ∧ z = -1 ∧ X = u) ∨ (hasD X pp dd ∧ nfd X pp 0 ∧ z = -2 ∧ X = u) ∨ (hasD X pp dd ∧ lfd X pp 0 z ∧ u = su X 2 (6 * pp + z) (X 2 (6 * pp + dd)))
abbrev mq_close (X : oS) (pp dd : Int) : Int → oS → Prop := fun z u =>
  (¬ hasD X pp dd ∧ z = -1 ∧ X = u) ∨ (hasD X pp dd ∧ z = 0 ∧ u = su X 2 (6 * pp + dd) (-1))
def mfk (X : oS) (pp c d : Int) : oS := fun k i => if k = 2 ∧ 6 * c ≤ i ∧ i < 6 * c + d then X 2 (6 * pp + (i - 6 * c)) else X k i
theorem mfk_0 {X : oS} {pp c : Int} : X = mfk X pp c 0 := by
  funext k i; unfold mfk; rw [if_neg (by omega)]
theorem mfk_rd {X Y : oS} {pp c d : Int} (h : Y = mfk X pp c d) (h0 : 0 ≤ d) (h1 : d < 6) : Y 2 (6 * pp + d) = X 2 (6 * pp + d) := by
  subst h; unfold mfk; rw [if_neg (by omega)]
theorem mfk_s {X Y : oS} {pp c d : Int} (h : Y = mfk X pp c d) (h0 : 0 ≤ d) (h1 : d < 6) : su Y 2 (6 * c + d) (Y 2 (6 * pp + d)) = mfk X pp c (d + 1) := by
  have e := mfk_rd h h0 h1
  subst h
  rw [e]
  funext k i
  by_cases g : k = 2 ∧ i = 6 * c + d
  · obtain ⟨rfl, rfl⟩ := g
    rw [su_s]; unfold mfk; rw [if_pos (by omega)]; congr 1; omega
  · unfold su; rw [if_neg g]; unfold mfk
    by_cases g2 : k = 2 ∧ 6 * c ≤ i ∧ i < 6 * c + d
    · rw [if_pos g2, if_pos (by omega)]
    · rw [if_neg g2, if_neg (by omega)]
abbrev mq_fork (X : oS) (pp : Int) : Int → oS → Prop := fun z u =>
  (¬ al X pp ∧ z = -1 ∧ X = u) ∨ (al X pp ∧ (∀ j, 0 ≤ j → j < 4 → X 1 j ≠ 0) ∧ z = -2 ∧ X = u) ∨
  (al X pp ∧ (0 ≤ z ∧ z < 4 ∧ X 1 z = 0 ∧ ∀ j, 0 ≤ j → j < z → X 1 j ≠ 0) ∧ u = mfk (su X 1 z 1) pp z 6)
def mex (X : oS) (pp d : Int) : oS := fun k i => if k = 2 ∧ 6 * pp ≤ i ∧ i < 6 * pp + d then -1 else X k i
theorem mex_0 {X : oS} {pp : Int} : X = mex X pp 0 := by
  funext k i; unfold mex; rw [if_neg (by omega)]
theorem mex_s {X Y : oS} {pp d : Int} (h : Y = mex X pp d) (h0 : 0 ≤ d) : su Y 2 (6 * pp + d) (-1) = mex X pp (d + 1) := by
  subst h
  funext k i
  by_cases g : k = 2 ∧ i = 6 * pp + d
  · obtain ⟨rfl, rfl⟩ := g
    rw [su_s]; unfold mex; rw [if_pos (by omega)]
  · unfold su; rw [if_neg g]; unfold mex
    by_cases g2 : k = 2 ∧ 6 * pp ≤ i ∧ i < 6 * pp + d
    · rw [if_pos g2, if_pos (by omega)]
    · rw [if_neg g2, if_neg (by omega)]
noncomputable abbrev moc (X : oS) (pp : Int) : Int := cp (fun j => X 1 j ≠ 0 ∧ j ≠ pp) 4
abbrev mq_exit (X : oS) (pp : Int) : Int → oS → Prop := fun z u =>
  (¬ al X pp ∧ z = -1 ∧ X = u) ∨ (al X pp ∧ moc X pp = 0 ∧ z = -1 ∧ X = u) ∨ (al X pp ∧ moc X pp ≠ 0 ∧ z = 0 ∧ u = mex (su X 1 pp 0) pp 6)
abbrev mq_wf (X : oS) (o v : Int) : Int → oS → Prop := fun z u =>
  (X 5 o = 8 ∧ z = -2 ∧ X = u) ∨
  (X 5 o ≠ 8 ∧ X 5 o = X 7 (X 4 o) ∧ z = 0 ∧ u = su (su (su X 8 (8 * X 4 o + X 5 o) v) 7 (X 4 o) (X 7 (X 4 o) + 1)) 5 o (X 5 o + 1)) ∨
  (X 5 o ≠ 8 ∧ X 5 o ≠ X 7 (X 4 o) ∧ z = 0 ∧ u = su (su X 8 (8 * X 4 o + X 5 o) v) 5 o (X 5 o + 1))
abbrev mq_wp (X : oS) (w v : Int) : Int → oS → Prop := fun z u =>
  (¬ hop X 1 w ∧ z = -3 ∧ X = u) ∨ (hop X 1 w ∧ X 9 w = 6 ∧ z = -4 ∧ X = u) ∨
  (hop X 1 w ∧ X 9 w ≠ 6 ∧ z = 0 ∧ u = su (su X 10 (6 * w + X 9 w) v) 9 w (X 9 w + 1))
abbrev mq_write (X : oS) (pp dd vv : Int) : Int → oS → Prop := fun z u =>
  (¬ (hasD X pp dd ∧ X 3 (X 2 (6 * pp + dd)) ≠ 1) ∧ z = -1 ∧ X = u) ∨
  (hasD X pp dd ∧ X 3 (X 2 (6 * pp + dd)) = 2 ∧ mq_wp X (X 4 (X 2 (6 * pp + dd))) (iI vv &&& iI 255).toInt z u) ∨
  (hasD X pp dd ∧ X 3 (X 2 (6 * pp + dd)) ≠ 1 ∧ X 3 (X 2 (6 * pp + dd)) ≠ 2 ∧ mq_wf X (X 2 (6 * pp + dd)) (iI vv &&& iI 255).toInt z u)
def msh (X : oS) (w n : Int) : oS := fun k i => if k = 10 ∧ 6 * w ≤ i ∧ i < 6 * w + n then X 10 (i + 1) else X k i
theorem msh_0 {X : oS} {w : Int} : X = msh X w 0 := by
  funext k i; unfold msh; rw [if_neg (by omega)]
theorem msh_9 {X Y : oS} {w n i : Int} (h : Y = msh X w n) : Y 9 i = X 9 i := by
  subst h; unfold msh; rw [if_neg (by omega)]
theorem msh_s {X Y : oS} {w n : Int} (h : Y = msh X w n) (h0 : 0 ≤ n) : su Y 10 (6 * w + n) (Y 10 (6 * w + n + 1)) = msh X w (n + 1) := by
  subst h
  have e : msh X w n 10 (6 * w + n + 1) = X 10 (6 * w + n + 1) := by unfold msh; rw [if_neg (by omega)]
  rw [e]
  funext k i
  by_cases g : k = 10 ∧ i = 6 * w + n
  · obtain ⟨rfl, rfl⟩ := g
    rw [su_s]; unfold msh; rw [if_pos (by omega)]
  · unfold su; rw [if_neg g]; unfold msh
    by_cases g2 : k = 10 ∧ 6 * w ≤ i ∧ i < 6 * w + n
    · rw [if_pos g2, if_pos (by omega)]
    · rw [if_neg g2, if_neg (by omega)]
abbrev mq_rf (X : oS) (o : Int) : Int → oS → Prop := fun z u =>
  (X 5 o = X 7 (X 4 o) ∧ z = -5 ∧ X = u) ∨ (X 5 o ≠ X 7 (X 4 o) ∧ z = X 8 (8 * X 4 o + (X 5 o + 1) - 1) ∧ u = su X 5 o (X 5 o + 1))
abbrev mq_rp (X : oS) (w : Int) : Int → oS → Prop := fun z u =>
  (X 9 w = 0 ∧ hop X 2 w ∧ z = -4 ∧ X = u) ∨ (X 9 w = 0 ∧ ¬ hop X 2 w ∧ z = -5 ∧ X = u) ∨
  (X 9 w ≠ 0 ∧ z = X 10 (6 * w) ∧ u = msh (su X 9 w (X 9 w - 1)) w (X 9 w - 1))
abbrev mq_read (X : oS) (pp dd : Int) : Int → oS → Prop := fun z u =>
  (¬ (hasD X pp dd ∧ X 3 (X 2 (6 * pp + dd)) ≠ 2) ∧ z = -1 ∧ X = u) ∨
  (hasD X pp dd ∧ X 3 (X 2 (6 * pp + dd)) = 1 ∧ mq_rp X (X 4 (X 2 (6 * pp + dd))) z u) ∨
  (hasD X pp dd ∧ X 3 (X 2 (6 * pp + dd)) ≠ 1 ∧ X 3 (X 2 (6 * pp + dd)) ≠ 2 ∧ mq_rf X (X 2 (6 * pp + dd)) z u)
abbrev mq_seek (X : oS) (pp dd ff : Int) : Int → oS → Prop := fun z u =>
  (¬ (hasD X pp dd ∧ X 3 (X 2 (6 * pp + dd)) = 0 ∧ 0 ≤ ff ∧ ff ≤ X 7 (X 4 (X 2 (6 * pp + dd)))) ∧ z = -1 ∧ X = u) ∨
  ((hasD X pp dd ∧ X 3 (X 2 (6 * pp + dd)) = 0 ∧ 0 ≤ ff ∧ ff ≤ X 7 (X 4 (X 2 (6 * pp + dd)))) ∧ z = 0 ∧ u = su X 5 (X 2 (6 * pp + dd)) ff)
abbrev mq_link (X : oS) (n1 n2 : Int) : Int → oS → Prop := fun z u =>
  (¬ ((0 ≤ n1 ∧ n1 ≤ 3) ∧ (0 ≤ n2 ∧ n2 ≤ 3) ∧ 0 ≤ X 6 n1 ∧ X 6 n2 < 0) ∧ z = -1 ∧ X = u) ∨
  (((0 ≤ n1 ∧ n1 ≤ 3) ∧ (0 ≤ n2 ∧ n2 ≤ 3) ∧ 0 ≤ X 6 n1 ∧ X 6 n2 < 0) ∧ z = 0 ∧ u = su X 6 n2 (X 6 n1))
abbrev mq_unlink (X : oS) (nn : Int) : Int → oS → Prop := fun z u =>
  (¬ ((0 ≤ nn ∧ nn ≤ 3) ∧ 0 ≤ X 6 nn) ∧ z = -1 ∧ X = u) ∨ (((0 ≤ nn ∧ nn ≤ 3) ∧ 0 ≤ X 6 nn) ∧ z = 0 ∧ u = su X 6 nn (-1))
abbrev mq_counts (X : oS) : Int → oS → Prop := fun z u =>
  z = 100 * cp (opd X) 24 + 10 * cp (isf X) 28 + cp (hop X 3) 24 ∧ X = u
set_option maxHeartbeats 4000000 in
/-- open -/
theorem mm_open (l : Launch) (D : va_G) (cI cZ : ClassId) (h : Nat) (a : Nat → Nat) (X : oS) (pp : Int) (nn : Int) (hp : ii_r pp) (hn : ii_r nn) (hB1 : rg X 1 4 0 1) (hB2 : rg X 2 24 (-1) 23) (hB3 : rg X 3 24 0 2) (hB4 : rg X 4 24 0 27) (hB6 : rg X 6 4 (-1) 27) (hu : al X pp → exd X pp → exo X) (hv : al X pp → exd X pp → 0 ≤ nn → nn ≤ 3 → X 6 nn < 0 → exf X) : oC dM l yX1_open cX1_open 3 (some .int) 4 89 D cI cZ h a X [.int (iI pp), .int (iI nn)] (mq_open X pp nn) := by
  refine oC_of (own := RX1) (by decide) rfl (Nat.le_of_ble_eq_true rfl) rfl ?_
  intro p e s m below meth c ls A E hW hl
  have hx := E.1
  have hb := E.2.1
  have hl : lv_has ls 3 [(0, .ref h), (1, .int (iI pp)), (2, .int (iI nn))] := hl
  refine lv_aload_n hx hb dX1_open_0 rfl (lv_at hl 0 rfl) ?_
  refine lv_iload_n hx hb dX1_open_1 rfl (lv_at hl 1 rfl) ?_
  refine o_call (nA := 1) (As := [.int (iI pp)]) (rest := []) E hW hl (mm_dead l D cI cZ h a X pp hp hB1) (lw_V q218 q220 qs11 q22 q221) rfl (by decide +kernel) rfl ⟨Nat.le_of_ble_eq_true rfl, Nat.le_of_ble_eq_true rfl⟩ rfl (Nat.le_of_ble_eq_true rfl) ⟨Nat.le_of_ble_eq_true rfl, Nat.le_of_ble_eq_true rfl⟩ dX1_open_2 (fun z_2 X_2 H locs hq hW => ?_)
  rcases hq with ⟨q_2, rfl, rfl⟩ | ⟨q_2, rfl, rfl⟩
  · refine o_ifne (tgt := 15) hx hb dX1_open_5 (by decide) (by omega) (fun _ => ?_) (fun q => absurd q (by decide))
    refine o_iconst hx hb dX1_open_15 ?_
    exact o_ret (z := (-1)) E hW dX1_open_16 (Or.inl ⟨by omega, rfl, rfl⟩)
  · refine o_ifne (tgt := 15) hx hb dX1_open_5 (by decide) (by omega) (fun q => absurd q (by decide)) (fun _ => ?_)
    refine lv_iload_n hx hb dX1_open_8 rfl (lv_at hl 2 rfl) ?_
    refine o_calls (nA := 1) (As := [.int (iI nn)]) (rest := []) E hW hl (mm_badName l nn hn) (lw_S q222 q223 q22 q224) (by decide +kernel) rfl ⟨Nat.le_of_ble_eq_true rfl, Nat.le_of_ble_eq_true rfl⟩ rfl (Nat.le_of_ble_eq_true rfl) ⟨Nat.le_of_ble_eq_true rfl, Nat.le_of_ble_eq_true rfl⟩ dX1_open_9 (fun z_9 H locs hq hW => ?_)
    rcases hq with ⟨q_9, rfl⟩ | ⟨q_9, rfl⟩
    · refine o_ifeq (tgt := 17) hx hb dX1_open_12 (by decide) (by omega) (fun q => absurd q (by decide)) (fun _ => ?_)
      refine o_iconst hx hb dX1_open_15 ?_
      exact o_ret (z := (-1)) E hW dX1_open_16 (Or.inl ⟨by omega, rfl, rfl⟩)
    · refine o_ifeq (tgt := 17) hx hb dX1_open_12 (by decide) (by omega) (fun _ => ?_) (fun q => absurd q (by decide))
      refine lv_aload_n hx hb dX1_open_17 rfl (lv_at hl 0 rfl) ?_
      refine lv_iload_n hx hb dX1_open_18 rfl (lv_at hl 1 rfl) ?_
      refine o_call (nA := 1) (As := [.int (iI pp)]) (rest := []) E hW hl (mm_leastFree l D cI cZ h a X pp ⟨by omega, by omega⟩ hB2) (lw_V q225 q227 qs12 q22 q228) rfl (by decide +kernel) rfl ⟨Nat.le_of_ble_eq_true rfl, Nat.le_of_ble_eq_true rfl⟩ rfl (Nat.le_of_ble_eq_true rfl) ⟨Nat.le_of_ble_eq_true rfl, Nat.le_of_ble_eq_true rfl⟩ dX1_open_19 (fun z_19 X_19 H locs hq hW => ?_)
      rcases hq with ⟨rfl, rfl, q_19⟩ | ⟨r_19, rfl, s_19, t_19, u_19, q_19⟩
      · refine o_ifge (tgt := 28) hx hb dX1_open_22 (by decide) (by omega) (fun q => absurd q (by decide)) (fun _ => ?_)
        refine o_bipush hx hb dX1_open_25 (by decide) ?_
        exact o_ret (z := (-2)) E hW dX1_open_27 (Or.inr (Or.inl ⟨by omega, q_19, rfl, rfl⟩))
      · refine o_ifge (tgt := 28) hx hb dX1_open_22 (by decide) (by omega) (fun c_22 => ?_) (fun c_22 => ?_)
        · refine lv_aload_n hx hb dX1_open_28 rfl (lv_at hl 0 rfl) ?_
          refine o_get E hW in_X1 rfl 5 (by decide) (v := .ref (a 6)) rfl q188 rfl dX1_open_29 ?_
          refine lv_iload_n hx hb dX1_open_32 rfl (lv_at hl 2 rfl) ?_
          have h_33 := hB6 nn (by omega) (by omega)
          refine o_ld E hW 6 ⟨by decide, rfl⟩ (by omega) (by omega) (by decide) (z := X 6 nn) rfl dX1_open_33 ?_
          refine o_ifge (tgt := 47) hx hb dX1_open_34 (by decide) (by omega) (fun c_34 => ?_) (fun c_34 => ?_)
          · refine lv_aload_n hx hb dX1_open_47 rfl (lv_at hl 0 rfl) ?_
            refine lv_iload_n hx hb dX1_open_48 rfl (lv_at hl 1 rfl) ?_
            refine o_iconst hx hb dX1_open_49 ?_
            refine lv_aload_n hx hb dX1_open_50 rfl (lv_at hl 0 rfl) ?_
            refine o_get E hW in_X1 rfl 5 (by decide) (v := .ref (a 6)) rfl q188 rfl dX1_open_51 ?_
            refine lv_iload_n hx hb dX1_open_54 rfl (lv_at hl 2 rfl) ?_
            have h_55 := hB6 nn (by omega) (by omega)
            refine o_ld E hW 6 ⟨by decide, rfl⟩ (by omega) (by omega) (by decide) (z := X 6 nn) rfl dX1_open_55 ?_
            refine o_call (nA := 3) (As := [.int (iI pp), .int (iI 0), .int (iI (X 6 nn))]) (rest := []) E hW hl (mm_lead l D cI cZ h a X pp 0 (X 6 nn) ⟨by omega, by omega⟩ hB2 ⟨z_19, by omega, by omega, u_19⟩ (hu ⟨by omega, by omega, by omega⟩ ⟨z_19, by omega, by omega, by omega⟩)) (lw_V q245 q247 qs17 q22 q248) rfl (by decide +kernel) rfl ⟨Nat.le_of_ble_eq_true rfl, Nat.le_of_ble_eq_true rfl⟩ rfl (Nat.le_of_ble_eq_true rfl) ⟨Nat.le_of_ble_eq_true rfl, Nat.le_of_ble_eq_true rfl⟩ dX1_open_56 (fun z_56 X_56 H locs hq hW => ?_)
            obtain ⟨⟨s_56, t_56, u_56, q_56⟩, o_56, ⟨v_56, w_56, x_56, y_56⟩, rfl⟩ := hq
            exact o_ret (z := z_56) E hW dX1_open_59 (Or.inr (Or.inr (Or.inr ⟨by omega, ⟨s_56, t_56, u_56, q_56⟩, by omega, o_56, ⟨v_56, w_56, x_56, y_56⟩, rfl⟩)))
          · refine lv_aload_n hx hb dX1_open_37 rfl (lv_at hl 0 rfl) ?_
            refine o_get E hW in_X1 rfl 5 (by decide) (v := .ref (a 6)) rfl q188 rfl dX1_open_38 ?_
            refine lv_iload_n hx hb dX1_open_41 rfl (lv_at hl 2 rfl) ?_
            refine lv_aload_n hx hb dX1_open_42 rfl (lv_at hl 0 rfl) ?_
            refine o_call (nA := 0) (As := []) (rest := [.int (iI nn), .ref (a 6)]) E hW hl (mm_newFile l D cI cZ h a X  hB2 hB3 hB4 hB6 (hv ⟨by omega, by omega, by omega⟩ ⟨z_19, by omega, by omega, by omega⟩ (by omega) (by omega) (by omega))) (lw_V q229 q231 qs13 q22 q232) rfl (by decide +kernel) rfl ⟨Nat.le_of_ble_eq_true rfl, Nat.le_of_ble_eq_true rfl⟩ rfl (Nat.le_of_ble_eq_true rfl) ⟨Nat.le_of_ble_eq_true rfl, Nat.le_of_ble_eq_true rfl⟩ dX1_open_43 (fun z_43 X_43 H locs hq hW => ?_)
            obtain ⟨⟨s_43, t_43, u_43, q_43⟩, rfl⟩ := hq
            refine o_st E hW 6 ⟨by decide, rfl⟩ (by omega) (by omega) (by decide) dX1_open_46 (fun H locs hW => ?_)
            refine lv_aload_n hx hb dX1_open_47 rfl (lv_at hl 0 rfl) ?_
            refine lv_iload_n hx hb dX1_open_48 rfl (lv_at hl 1 rfl) ?_
            refine o_iconst hx hb dX1_open_49 ?_
            refine lv_aload_n hx hb dX1_open_50 rfl (lv_at hl 0 rfl) ?_
            refine o_get E hW in_X1 rfl 5 (by decide) (v := .ref (a 6)) rfl q188 rfl dX1_open_51 ?_
            refine lv_iload_n hx hb dX1_open_54 rfl (lv_at hl 2 rfl) ?_
            refine o_ld E hW 6 ⟨by decide, rfl⟩ (by omega) (by omega) (by decide) (z := z_43) (su_s) dX1_open_55 ?_
            refine o_call (nA := 3) (As := [.int (iI pp), .int (iI 0), .int (iI z_43)]) (rest := []) E hW hl (mm_lead l D cI cZ h a (su (su X 7 z_43 0) 6 nn z_43) pp 0 z_43 ⟨by omega, by omega⟩ hB2 ⟨z_19, by omega, by omega, u_19⟩ (hu ⟨by omega, by omega, by omega⟩ ⟨z_19, by omega, by omega, by omega⟩)) (lw_V q245 q247 qs17 q22 q248) rfl (by decide +kernel) rfl ⟨Nat.le_of_ble_eq_true rfl, Nat.le_of_ble_eq_true rfl⟩ rfl (Nat.le_of_ble_eq_true rfl) ⟨Nat.le_of_ble_eq_true rfl, Nat.le_of_ble_eq_true rfl⟩ dX1_open_56 (fun z_56 X_56 H locs hq hW => ?_)
            obtain ⟨⟨s_56, t_56, u_56, q_56⟩, o_56, ⟨v_56, w_56, x_56, y_56⟩, rfl⟩ := hq
            exact o_ret (z := z_56) E hW dX1_open_59 (Or.inr (Or.inr (Or.inl ⟨by omega, ⟨s_56, t_56, u_56, q_56⟩, by omega, z_43, o_56, ⟨s_43, t_43, u_43, q_43⟩, ⟨v_56, w_56, x_56, y_56⟩, rfl⟩)))
        · refine o_bipush hx hb dX1_open_25 (by decide) ?_
          exact o_ret (z := (-2)) E hW dX1_open_27 (by exfalso; omega)
set_option maxHeartbeats 4000000 in
/-- pipe -/
theorem mm_pipe (l : Launch) (D : va_G) (cI cZ : ClassId) (h : Nat) (a : Nat → Nat) (X : oS) (pp : Int) (hp : ii_r pp) (hB1 : rg X 1 4 0 1) (hB2 : rg X 2 24 (-1) 23) (hB3 : rg X 3 24 0 2) (hB4 : rg X 4 24 0 27) (h1 : al X pp → 2 ≤ mfc X pp → exd X pp ∧ exo X) (h2 : ∀ q r o, al X pp → 2 ≤ mfc X pp → lfd X pp 0 r → luo X o → exd (mld (su X 9 q 0) pp r o 1 q) pp ∧ exo (mld (su X 9 q 0) pp r o 1 q)) : oC dM l yX1_pipe cX1_pipe 5 (some .int) 2 47 D cI cZ h a X [.int (iI pp)] (mq_pipe X pp) := by
  refine oC_of (own := RX1) (by decide) rfl (Nat.le_of_ble_eq_true rfl) rfl ?_
  intro p e s m below meth c ls A E hW hl
  have hx := E.1
  have hb := E.2.1
  have hl : lv_has ls 5 [(0, .ref h), (1, .int (iI pp))] := hl
  refine lv_aload_n hx hb dX1_pipe_0 rfl (lv_at hl 0 rfl) ?_
  refine lv_iload_n hx hb dX1_pipe_1 rfl (lv_at hl 1 rfl) ?_
  refine o_call (nA := 1) (As := [.int (iI pp)]) (rest := []) E hW hl (mm_dead l D cI cZ h a X pp hp hB1) (lw_V q218 q220 qs11 q22 q221) rfl (by decide +kernel) rfl ⟨Nat.le_of_ble_eq_true rfl, Nat.le_of_ble_eq_true rfl⟩ rfl (Nat.le_of_ble_eq_true rfl) ⟨Nat.le_of_ble_eq_true rfl, Nat.le_of_ble_eq_true rfl⟩ dX1_pipe_2 (fun z_2 X_2 H locs hq hW => ?_)
  rcases hq with ⟨q_2, rfl, rfl⟩ | ⟨q_2, rfl, rfl⟩
  · refine o_ifeq (tgt := 10) hx hb dX1_pipe_5 (by decide) (by omega) (fun q => absurd q (by decide)) (fun _ => ?_)
    refine o_iconst hx hb dX1_pipe_8 ?_
    exact o_ret (z := (-1)) E hW dX1_pipe_9 (Or.inl ⟨by omega, rfl, rfl⟩)
  · refine o_ifeq (tgt := 10) hx hb dX1_pipe_5 (by decide) (by omega) (fun _ => ?_) (fun q => absurd q (by decide))
    refine lv_aload_n hx hb dX1_pipe_10 rfl (lv_at hl 0 rfl) ?_
    refine lv_iload_n hx hb dX1_pipe_11 rfl (lv_at hl 1 rfl) ?_
    refine o_call (nA := 1) (As := [.int (iI pp)]) (rest := []) E hW hl (mm_freeDescriptors l D cI cZ h a X pp ⟨by omega, by omega⟩ hB2) (lw_V q253 q255 qs18 q22 q256) rfl (by decide +kernel) rfl ⟨Nat.le_of_ble_eq_true rfl, Nat.le_of_ble_eq_true rfl⟩ rfl (Nat.le_of_ble_eq_true rfl) ⟨Nat.le_of_ble_eq_true rfl, Nat.le_of_ble_eq_true rfl⟩ dX1_pipe_12 (fun z_12 X_12 H locs hq hW => ?_)
    obtain ⟨q_12, rfl⟩ := hq
    have hc : 0 ≤ mfc X pp ∧ mfc X pp ≤ 6 := cp_r _ 6
    have hm : z_12 = mfc X pp := q_12
    refine o_iconst hx hb dX1_pipe_15 ?_
    refine o_cge (tgt := 22) hx hb dX1_pipe_16 (by decide) (by omega) (by omega) (fun c_16 => ?_) (fun c_16 => ?_)
    · refine o_iconst hx hb dX1_pipe_22 ?_
      refine lv_istore_n (lv' := [(2, .int (iI 0)), (0, .ref h), (1, .int (iI pp))]) hx hb dX1_pipe_23 rfl hl (by decide) rfl (fun ls hl => ?_)
      have lp_24 : ∀ (n : Nat) (q : Int)  (H : Heap) (locs : List Loc) (ls : Array Slot), 23 - q < (n : Int) → (0 ≤ q ∧ q ≤ 23) → (∀ j, 0 ≤ j → j < q → hop X 3 j) → mW dM D cI cZ h a A s X H locs → lv_has ls 5 [(0, .ref h), (1, .int (iI pp)), (2, .int (iI q))] → W p l e ({ frames := 2, cells := 0, slots := 0, locals := 47 }) s m (Value.ref h :: [.int (iI pp)]).toArray below meth c H locs 0 0 (MQ below (oQc dM D cI cZ h a A (mq_pipe X pp)) (Value.ref h :: [.int (iI pp)]).toArray s 0 0 A) (F0 m 24 ls []) := by
        intro n
        induction n with
        | zero =>
          intro q H locs ls hn hi hI hW hl
          exfalso
          omega
        | succ n ih =>
          intro q H locs ls hn hi hI hW hl
          refine lv_iload_n hx hb dX1_pipe_24 rfl (lv_at hl 2 rfl) ?_
          refine o_bipush hx hb dX1_pipe_25 (by decide) ?_
          refine o_cge (tgt := 45) hx hb dX1_pipe_27 (by decide) (by omega) (by omega) (fun c_27 => ?_) (fun c_27 => ?_)
          · refine lv_aload_n hx hb dX1_pipe_45 rfl (lv_at hl 0 rfl) ?_
            refine o_get E hW in_X1 rfl 8 (by decide) (v := .ref (a 9)) rfl q191 rfl dX1_pipe_46 ?_
            refine lv_iload_n hx hb dX1_pipe_49 rfl (lv_at hl 2 rfl) ?_
            refine o_iconst hx hb dX1_pipe_50 ?_
            refine o_st E hW 9 ⟨by decide, rfl⟩ (by omega) (by omega) (by decide) dX1_pipe_51 (fun H locs hW => ?_)
            refine lv_aload_n hx hb dX1_pipe_52 rfl (lv_at hl 0 rfl) ?_
            refine lv_iload_n hx hb dX1_pipe_53 rfl (lv_at hl 1 rfl) ?_
            refine o_iconst hx hb dX1_pipe_54 ?_
            refine lv_iload_n hx hb dX1_pipe_55 rfl (lv_at hl 2 rfl) ?_
            refine o_call (nA := 3) (As := [.int (iI pp), .int (iI 1), .int (iI q)]) (rest := []) E hW hl (mm_lead l D cI cZ h a (su X 9 q 0) pp 1 q ⟨by omega, by omega⟩ hB2 (h1 ⟨by omega, by omega, by omega⟩ (by omega)).1 (h1 ⟨by omega, by omega, by omega⟩ (by omega)).2) (lw_V q245 q247 qs17 q22 q248) rfl (by decide +kernel) rfl ⟨Nat.le_of_ble_eq_true rfl, Nat.le_of_ble_eq_true rfl⟩ rfl (Nat.le_of_ble_eq_true rfl) ⟨Nat.le_of_ble_eq_true rfl, Nat.le_of_ble_eq_true rfl⟩ dX1_pipe_56 (fun z_56 X_56 H locs hq hW => ?_)
            obtain ⟨⟨s_56, t_56, u_56, q_56⟩, o_56, ⟨v_56, w_56, x_56, y_56⟩, rfl⟩ := hq
            refine lv_istore_n (lv' := [(3, .int (iI z_56)), (0, .ref h), (1, .int (iI pp)), (2, .int (iI q))]) hx hb dX1_pipe_59 rfl hl (by decide) rfl (fun ls hl => ?_)
            refine lv_aload_n hx hb dX1_pipe_60 rfl (lv_at hl 1 rfl) ?_
            refine lv_iload_n hx hb dX1_pipe_61 rfl (lv_at hl 2 rfl) ?_
            refine o_iconst hx hb dX1_pipe_62 ?_
            refine lv_iload_n hx hb dX1_pipe_63 rfl (lv_at hl 3 rfl) ?_
            refine o_call (nA := 3) (As := [.int (iI pp), .int (iI 2), .int (iI q)]) (rest := []) E hW hl (mm_lead l D cI cZ h a (su (su (su (su (su X 9 q 0) 3 o_56 1) 4 o_56 q) 5 o_56 0) 2 ((6 * pp) + z_56) o_56) pp 2 q ⟨by omega, by omega⟩ (rg_su hB2 (by omega) (by omega)) (h2 q z_56 o_56 ⟨by omega, by omega, by omega⟩ (by omega) ⟨s_56, t_56, u_56, q_56⟩ ⟨v_56, w_56, x_56, y_56⟩).1 (h2 q z_56 o_56 ⟨by omega, by omega, by omega⟩ (by omega) ⟨s_56, t_56, u_56, q_56⟩ ⟨v_56, w_56, x_56, y_56⟩).2) (lw_V q245 q247 qs17 q22 q248) rfl (by decide +kernel) rfl ⟨Nat.le_of_ble_eq_true rfl, Nat.le_of_ble_eq_true rfl⟩ rfl (Nat.le_of_ble_eq_true rfl) ⟨Nat.le_of_ble_eq_true rfl, Nat.le_of_ble_eq_true rfl⟩ dX1_pipe_64 (fun z_64 X_64 H locs hq hW => ?_)
            obtain ⟨⟨s_64, t_64, u_64, q_64⟩, o_64, ⟨v_64, w_64, x_64, y_64⟩, rfl⟩ := hq
            refine lv_istore (lv' := [(4, .int (iI z_64)), (3, .int (iI z_56)), (0, .ref h), (1, .int (iI pp)), (2, .int (iI q))]) hx hb dX1_pipe_67 hl (by decide) rfl (fun ls hl => ?_)
            refine o_bipush hx hb dX1_pipe_69 (by decide) ?_
            refine lv_iload_n hx hb dX1_pipe_71 rfl (lv_at hl 1 rfl) ?_
            refine o_imul hx hb dX1_pipe_72 ?_
            refine lv_iload hx hb dX1_pipe_73 (lv_at hl 0 rfl) ?_
            refine o_iadd hx hb dX1_pipe_75 ?_
            exact o_ret (z := ((8 * z_56) + z_64)) E hW dX1_pipe_76 (Or.inr (Or.inr ⟨by omega, by omega, q, z_56, o_56, z_64, o_64, ⟨by omega, by omega, hI, fun g => absurd g (by omega)⟩, ⟨s_56, t_56, u_56, q_56⟩, ⟨v_56, w_56, x_56, y_56⟩, ⟨s_64, t_64, u_64, q_64⟩, ⟨v_64, w_64, x_64, y_64⟩, rfl, rfl⟩))
          · refine lv_aload_n hx hb dX1_pipe_30 rfl (lv_at hl 0 rfl) ?_
            refine o_iconst hx hb dX1_pipe_31 ?_
            refine lv_iload_n hx hb dX1_pipe_32 rfl (lv_at hl 2 rfl) ?_
            refine o_call (nA := 2) (As := [.int (iI 3), .int (iI q)]) (rest := []) E hW hl (mm_hasOpening l D cI cZ h a X 3 q (by omega) (by omega) hB2 hB3 hB4) (lw_V q237 q239 qs15 q22 q240) rfl (by decide +kernel) rfl ⟨Nat.le_of_ble_eq_true rfl, Nat.le_of_ble_eq_true rfl⟩ rfl (Nat.le_of_ble_eq_true rfl) ⟨Nat.le_of_ble_eq_true rfl, Nat.le_of_ble_eq_true rfl⟩ dX1_pipe_33 (fun z_33 X_33 H locs hq hW => ?_)
            rcases hq with ⟨q_33, rfl, rfl⟩ | ⟨q_33, rfl, rfl⟩
            · refine o_ifeq (tgt := 45) hx hb dX1_pipe_36 (by decide) (by omega) (fun q => absurd q (by decide)) (fun _ => ?_)
              refine o_iinc (lv' := [(2, .int (iI (q + 1))), (0, .ref h), (1, .int (iI pp))]) hx hb dX1_pipe_39 hl (k := 2) rfl (by decide) rfl (fun ls hl => ?_)
              refine lv_goto (tgt := 24) hx hb dX1_pipe_42 (by decide) ?_
              exact ih (q + 1)  _ _ _ (by omega) ⟨by omega, by omega⟩ (fun j h1 h2 => by rcases Int.lt_or_eq_of_le (show j ≤ q by omega) with g | g <;> first | exact hI j h1 g | (subst g; exact q_33)) hW (lv_sub hl [1, 2, 0] rfl)
            · refine o_ifeq (tgt := 45) hx hb dX1_pipe_36 (by decide) (by omega) (fun _ => ?_) (fun q => absurd q (by decide))
              refine lv_aload_n hx hb dX1_pipe_45 rfl (lv_at hl 0 rfl) ?_
              refine o_get E hW in_X1 rfl 8 (by decide) (v := .ref (a 9)) rfl q191 rfl dX1_pipe_46 ?_
              refine lv_iload_n hx hb dX1_pipe_49 rfl (lv_at hl 2 rfl) ?_
              refine o_iconst hx hb dX1_pipe_50 ?_
              refine o_st E hW 9 ⟨by decide, rfl⟩ (by omega) (by omega) (by decide) dX1_pipe_51 (fun H locs hW => ?_)
              refine lv_aload_n hx hb dX1_pipe_52 rfl (lv_at hl 0 rfl) ?_
              refine lv_iload_n hx hb dX1_pipe_53 rfl (lv_at hl 1 rfl) ?_
              refine o_iconst hx hb dX1_pipe_54 ?_
              refine lv_iload_n hx hb dX1_pipe_55 rfl (lv_at hl 2 rfl) ?_
              refine o_call (nA := 3) (As := [.int (iI pp), .int (iI 1), .int (iI q)]) (rest := []) E hW hl (mm_lead l D cI cZ h a (su X 9 q 0) pp 1 q ⟨by omega, by omega⟩ hB2 (h1 ⟨by omega, by omega, by omega⟩ (by omega)).1 (h1 ⟨by omega, by omega, by omega⟩ (by omega)).2) (lw_V q245 q247 qs17 q22 q248) rfl (by decide +kernel) rfl ⟨Nat.le_of_ble_eq_true rfl, Nat.le_of_ble_eq_true rfl⟩ rfl (Nat.le_of_ble_eq_true rfl) ⟨Nat.le_of_ble_eq_true rfl, Nat.le_of_ble_eq_true rfl⟩ dX1_pipe_56 (fun z_56 X_56 H locs hq hW => ?_)
              obtain ⟨⟨s_56, t_56, u_56, q_56⟩, o_56, ⟨v_56, w_56, x_56, y_56⟩, rfl⟩ := hq
              refine lv_istore_n (lv' := [(3, .int (iI z_56)), (0, .ref h), (1, .int (iI pp)), (2, .int (iI q))]) hx hb dX1_pipe_59 rfl hl (by decide) rfl (fun ls hl => ?_)
              refine lv_aload_n hx hb dX1_pipe_60 rfl (lv_at hl 1 rfl) ?_
              refine lv_iload_n hx hb dX1_pipe_61 rfl (lv_at hl 2 rfl) ?_
              refine o_iconst hx hb dX1_pipe_62 ?_
              refine lv_iload_n hx hb dX1_pipe_63 rfl (lv_at hl 3 rfl) ?_
              refine o_call (nA := 3) (As := [.int (iI pp), .int (iI 2), .int (iI q)]) (rest := []) E hW hl (mm_lead l D cI cZ h a (su (su (su (su (su X 9 q 0) 3 o_56 1) 4 o_56 q) 5 o_56 0) 2 ((6 * pp) + z_56) o_56) pp 2 q ⟨by omega, by omega⟩ (rg_su hB2 (by omega) (by omega)) (h2 q z_56 o_56 ⟨by omega, by omega, by omega⟩ (by omega) ⟨s_56, t_56, u_56, q_56⟩ ⟨v_56, w_56, x_56, y_56⟩).1 (h2 q z_56 o_56 ⟨by omega, by omega, by omega⟩ (by omega) ⟨s_56, t_56, u_56, q_56⟩ ⟨v_56, w_56, x_56, y_56⟩).2) (lw_V q245 q247 qs17 q22 q248) rfl (by decide +kernel) rfl ⟨Nat.le_of_ble_eq_true rfl, Nat.le_of_ble_eq_true rfl⟩ rfl (Nat.le_of_ble_eq_true rfl) ⟨Nat.le_of_ble_eq_true rfl, Nat.le_of_ble_eq_true rfl⟩ dX1_pipe_64 (fun z_64 X_64 H locs hq hW => ?_)
              obtain ⟨⟨s_64, t_64, u_64, q_64⟩, o_64, ⟨v_64, w_64, x_64, y_64⟩, rfl⟩ := hq
              refine lv_istore (lv' := [(4, .int (iI z_64)), (3, .int (iI z_56)), (0, .ref h), (1, .int (iI pp)), (2, .int (iI q))]) hx hb dX1_pipe_67 hl (by decide) rfl (fun ls hl => ?_)
              refine o_bipush hx hb dX1_pipe_69 (by decide) ?_
              refine lv_iload_n hx hb dX1_pipe_71 rfl (lv_at hl 1 rfl) ?_
              refine o_imul hx hb dX1_pipe_72 ?_
              refine lv_iload hx hb dX1_pipe_73 (lv_at hl 0 rfl) ?_
              refine o_iadd hx hb dX1_pipe_75 ?_
              exact o_ret (z := ((8 * z_56) + z_64)) E hW dX1_pipe_76 (Or.inr (Or.inr ⟨by omega, by omega, q, z_56, o_56, z_64, o_64, ⟨by omega, by omega, hI, fun _ => q_33⟩, ⟨s_56, t_56, u_56, q_56⟩, ⟨v_56, w_56, x_56, y_56⟩, ⟨s_64, t_64, u_64, q_64⟩, ⟨v_64, w_64, x_64, y_64⟩, rfl, rfl⟩))
      exact lp_24 24 0  _ _ _ (by omega) ⟨by omega, by omega⟩ (fun j h1 h2 => absurd h1 (by omega)) hW (lv_sub hl [1, 2, 0] rfl)
    · refine o_bipush hx hb dX1_pipe_19 (by decide) ?_
      exact o_ret (z := (-2)) E hW dX1_pipe_21 (Or.inr (Or.inl ⟨by omega, by omega, rfl, rfl⟩))
set_option maxHeartbeats 4000000 in
/-- dup -/
theorem mm_dup (l : Launch) (D : va_G) (cI cZ : ClassId) (h : Nat) (a : Nat → Nat) (X : oS) (pp : Int) (dd : Int) (hp : ii_r pp) (hd : ii_r dd) (hB1 : rg X 1 4 0 1) (hB2 : rg X 2 24 (-1) 23) : oC dM l yX1_dup cX1_dup 4 (some .int) 2 43 D cI cZ h a X [.int (iI pp), .int (iI dd)] (mq_dup X pp dd) := by
  refine oC_of (own := RX1) (by decide) rfl (Nat.le_of_ble_eq_true rfl) rfl ?_
  intro p e s m below meth c ls A E hW hl
  have hx := E.1
  have hb := E.2.1
  have hl : lv_has ls 4 [(0, .ref h), (1, .int (iI pp)), (2, .int (iI dd))] := hl
  refine lv_aload_n hx hb dX1_dup_0 rfl (lv_at hl 0 rfl) ?_
  refine lv_iload_n hx hb dX1_dup_1 rfl (lv_at hl 1 rfl) ?_
  refine lv_iload_n hx hb dX1_dup_2 rfl (lv_at hl 2 rfl) ?_
  refine o_call (nA := 2) (As := [.int (iI pp), .int (iI dd)]) (rest := []) E hW hl (mm_free l D cI cZ h a X pp dd hp hd hB1 hB2) (lw_V q261 q263 qs19 q22 q264) rfl (by decide +kernel) rfl ⟨Nat.le_of_ble_eq_true rfl, Nat.le_of_ble_eq_true rfl⟩ rfl (Nat.le_of_ble_eq_true rfl) ⟨Nat.le_of_ble_eq_true rfl, Nat.le_of_ble_eq_true rfl⟩ dX1_dup_3 (fun z_3 X_3 H locs hq hW => ?_)
  rcases hq with ⟨q_3, rfl, rfl⟩ | ⟨q_3, rfl, rfl⟩
  · refine o_ifeq (tgt := 11) hx hb dX1_dup_6 (by decide) (by omega) (fun q => absurd q (by decide)) (fun _ => ?_)
    refine o_iconst hx hb dX1_dup_9 ?_
    exact o_ret (z := (-1)) E hW dX1_dup_10 (Or.inl ⟨by omega, rfl, rfl⟩)
  · refine o_ifeq (tgt := 11) hx hb dX1_dup_6 (by decide) (by omega) (fun _ => ?_) (fun q => absurd q (by decide))
    refine lv_aload_n hx hb dX1_dup_11 rfl (lv_at hl 0 rfl) ?_
    refine lv_iload_n hx hb dX1_dup_12 rfl (lv_at hl 1 rfl) ?_
    refine o_call (nA := 1) (As := [.int (iI pp)]) (rest := []) E hW hl (mm_leastFree l D cI cZ h a X pp ⟨by omega, by omega⟩ hB2) (lw_V q225 q227 qs12 q22 q228) rfl (by decide +kernel) rfl ⟨Nat.le_of_ble_eq_true rfl, Nat.le_of_ble_eq_true rfl⟩ rfl (Nat.le_of_ble_eq_true rfl) ⟨Nat.le_of_ble_eq_true rfl, Nat.le_of_ble_eq_true rfl⟩ dX1_dup_13 (fun z_13 X_13 H locs hq hW => ?_)
    rcases hq with ⟨rfl, rfl, q_13⟩ | ⟨r_13, rfl, s_13, t_13, u_13, q_13⟩
    · refine lv_istore_n (lv' := [(3, .int (iI (-1))), (0, .ref h), (1, .int (iI pp)), (2, .int (iI dd))]) hx hb dX1_dup_16 rfl hl (by decide) rfl (fun ls hl => ?_)
      refine lv_iload_n hx hb dX1_dup_17 rfl (lv_at hl 0 rfl) ?_
      refine o_ifge (tgt := 24) hx hb dX1_dup_18 (by decide) (by omega) (fun q => absurd q (by decide)) (fun _ => ?_)
      refine o_bipush hx hb dX1_dup_21 (by decide) ?_
      exact o_ret (z := (-2)) E hW dX1_dup_23 (Or.inr (Or.inl ⟨by omega, q_13, rfl, rfl⟩))
    · refine lv_istore_n (lv' := [(3, .int (iI z_13)), (0, .ref h), (1, .int (iI pp)), (2, .int (iI dd))]) hx hb dX1_dup_16 rfl hl (by decide) rfl (fun ls hl => ?_)
      refine lv_iload_n hx hb dX1_dup_17 rfl (lv_at hl 0 rfl) ?_
      refine o_ifge (tgt := 24) hx hb dX1_dup_18 (by decide) (by omega) (fun c_18 => ?_) (fun c_18 => ?_)
      · refine lv_aload_n hx hb dX1_dup_24 rfl (lv_at hl 1 rfl) ?_
        refine o_get E hW in_X1 rfl 1 (by decide) (v := .ref (a 2)) rfl q184 rfl dX1_dup_25 ?_
        refine o_bipush hx hb dX1_dup_28 (by decide) ?_
        refine lv_iload_n hx hb dX1_dup_30 rfl (lv_at hl 2 rfl) ?_
        refine o_imul hx hb dX1_dup_31 ?_
        refine lv_iload_n hx hb dX1_dup_32 rfl (lv_at hl 0 rfl) ?_
        refine o_iadd hx hb dX1_dup_33 ?_
        refine lv_aload_n hx hb dX1_dup_34 rfl (lv_at hl 1 rfl) ?_
        refine o_get E hW in_X1 rfl 1 (by decide) (v := .ref (a 2)) rfl q184 rfl dX1_dup_35 ?_
        refine o_bipush hx hb dX1_dup_38 (by decide) ?_
        refine lv_iload_n hx hb dX1_dup_40 rfl (lv_at hl 2 rfl) ?_
        refine o_imul hx hb dX1_dup_41 ?_
        refine lv_iload_n hx hb dX1_dup_42 rfl (lv_at hl 3 rfl) ?_
        refine o_iadd hx hb dX1_dup_43 ?_
        have h_44 := hB2 ((6 * pp) + dd) (by omega) (by omega)
        refine o_ld E hW 2 ⟨by decide, rfl⟩ (by omega) (by omega) (by decide) (z := X 2 ((6 * pp) + dd)) rfl dX1_dup_44 ?_
        refine o_st E hW 2 ⟨by decide, rfl⟩ (by omega) (by omega) (by decide) dX1_dup_45 (fun H locs hW => ?_)
        refine lv_iload_n hx hb dX1_dup_46 rfl (lv_at hl 0 rfl) ?_
        exact o_ret (z := z_13) E hW dX1_dup_47 (Or.inr (Or.inr ⟨by omega, ⟨by omega, by omega, by omega, q_13⟩, rfl⟩))
      · refine o_bipush hx hb dX1_dup_21 (by decide) ?_
        exact o_ret (z := (-2)) E hW dX1_dup_23 (by exfalso; omega)
set_option maxHeartbeats 4000000 in
/-- close -/
theorem mm_close (l : Launch) (D : va_G) (cI cZ : ClassId) (h : Nat) (a : Nat → Nat) (X : oS) (pp : Int) (dd : Int) (hp : ii_r pp) (hd : ii_r dd) (hB1 : rg X 1 4 0 1) (hB2 : rg X 2 24 (-1) 23) : oC dM l yX1_close cX1_close 3 (some .int) 2 43 D cI cZ h a X [.int (iI pp), .int (iI dd)] (mq_close X pp dd) := by
  refine oC_of (own := RX1) (by decide) rfl (Nat.le_of_ble_eq_true rfl) rfl ?_
  intro p e s m below meth c ls A E hW hl
  have hx := E.1
  have hb := E.2.1
  have hl : lv_has ls 3 [(0, .ref h), (1, .int (iI pp)), (2, .int (iI dd))] := hl
  refine lv_aload_n hx hb dX1_close_0 rfl (lv_at hl 0 rfl) ?_
  refine lv_iload_n hx hb dX1_close_1 rfl (lv_at hl 1 rfl) ?_
  refine lv_iload_n hx hb dX1_close_2 rfl (lv_at hl 2 rfl) ?_
  refine o_call (nA := 2) (As := [.int (iI pp), .int (iI dd)]) (rest := []) E hW hl (mm_free l D cI cZ h a X pp dd hp hd hB1 hB2) (lw_V q261 q263 qs19 q22 q264) rfl (by decide +kernel) rfl ⟨Nat.le_of_ble_eq_true rfl, Nat.le_of_ble_eq_true rfl⟩ rfl (Nat.le_of_ble_eq_true rfl) ⟨Nat.le_of_ble_eq_true rfl, Nat.le_of_ble_eq_true rfl⟩ dX1_close_3 (fun z_3 X_3 H locs hq hW => ?_)
  rcases hq with ⟨q_3, rfl, rfl⟩ | ⟨q_3, rfl, rfl⟩
  · refine o_ifeq (tgt := 11) hx hb dX1_close_6 (by decide) (by omega) (fun q => absurd q (by decide)) (fun _ => ?_)
    refine o_iconst hx hb dX1_close_9 ?_
    exact o_ret (z := (-1)) E hW dX1_close_10 (Or.inl ⟨by omega, rfl, rfl⟩)
  · refine o_ifeq (tgt := 11) hx hb dX1_close_6 (by decide) (by omega) (fun _ => ?_) (fun q => absurd q (by decide))
    refine lv_aload_n hx hb dX1_close_11 rfl (lv_at hl 0 rfl) ?_
    refine o_get E hW in_X1 rfl 1 (by decide) (v := .ref (a 2)) rfl q184 rfl dX1_close_12 ?_
    refine o_bipush hx hb dX1_close_15 (by decide) ?_
    refine lv_iload_n hx hb dX1_close_17 rfl (lv_at hl 1 rfl) ?_
    refine o_imul hx hb dX1_close_18 ?_
    refine lv_iload_n hx hb dX1_close_19 rfl (lv_at hl 2 rfl) ?_
    refine o_iadd hx hb dX1_close_20 ?_
    refine o_iconst hx hb dX1_close_21 ?_
    refine o_st E hW 2 ⟨by decide, rfl⟩ (by omega) (by omega) (by decide) dX1_close_22 (fun H locs hW => ?_)
    refine o_iconst hx hb dX1_close_23 ?_
    exact o_ret (z := 0) E hW dX1_close_24 (Or.inr ⟨by omega, rfl, rfl⟩)
set_option maxHeartbeats 4000000 in
/-- fork -/
theorem mm_fork (l : Launch) (D : va_G) (cI cZ : ClassId) (h : Nat) (a : Nat → Nat) (X : oS) (pp : Int) (hp : ii_r pp) (hB1 : rg X 1 4 0 1) : oC dM l yX1_fork cX1_fork 4 (some .int) 1 21 D cI cZ h a X [.int (iI pp)] (mq_fork X pp) := by
  refine oC_of (own := RX1) (by decide) rfl (Nat.le_of_ble_eq_true rfl) rfl ?_
  intro p e s m below meth c ls A E hW hl
  have hx := E.1
  have hb := E.2.1
  have hl : lv_has ls 4 [(0, .ref h), (1, .int (iI pp))] := hl
  refine lv_aload_n hx hb dX1_fork_0 rfl (lv_at hl 0 rfl) ?_
  refine lv_iload_n hx hb dX1_fork_1 rfl (lv_at hl 1 rfl) ?_
  refine o_call (nA := 1) (As := [.int (iI pp)]) (rest := []) E hW hl (mm_dead l D cI cZ h a X pp hp hB1) (lw_V q218 q220 qs11 q22 q221) rfl (by decide +kernel) rfl ⟨Nat.le_of_ble_eq_true rfl, Nat.le_of_ble_eq_true rfl⟩ rfl (Nat.le_of_ble_eq_true rfl) ⟨Nat.le_of_ble_eq_true rfl, Nat.le_of_ble_eq_true rfl⟩ dX1_fork_2 (fun z_2 X_2 H locs hq hW => ?_)
  rcases hq with ⟨q_2, rfl, rfl⟩ | ⟨q_2, rfl, rfl⟩
  · refine o_ifeq (tgt := 10) hx hb dX1_fork_5 (by decide) (by omega) (fun q => absurd q (by decide)) (fun _ => ?_)
    refine o_iconst hx hb dX1_fork_8 ?_
    exact o_ret (z := (-1)) E hW dX1_fork_9 (Or.inl ⟨by omega, rfl, rfl⟩)
  · refine o_ifeq (tgt := 10) hx hb dX1_fork_5 (by decide) (by omega) (fun _ => ?_) (fun q => absurd q (by decide))
    refine o_iconst hx hb dX1_fork_10 ?_
    refine lv_istore_n (lv' := [(2, .int (iI 0)), (0, .ref h), (1, .int (iI pp))]) hx hb dX1_fork_11 rfl hl (by decide) rfl (fun ls hl => ?_)
    have lp_12 : ∀ (n : Nat) (f : Int)  (H : Heap) (locs : List Loc) (ls : Array Slot), 4 - f < (n : Int) → (0 ≤ f ∧ f ≤ 4) → (∀ j, 0 ≤ j → j < f → X 1 j ≠ 0) → mW dM D cI cZ h a A s X H locs → lv_has ls 4 [(0, .ref h), (1, .int (iI pp)), (2, .int (iI f))] → W p l e ({ frames := 1, cells := 0, slots := 0, locals := 21 }) s m (Value.ref h :: [.int (iI pp)]).toArray below meth c H locs 0 0 (MQ below (oQc dM D cI cZ h a A (mq_fork X pp)) (Value.ref h :: [.int (iI pp)]).toArray s 0 0 A) (F0 m 12 ls []) := by
      intro n
      induction n with
      | zero =>
        intro f H locs ls hn hi hI hW hl
        exfalso
        omega
      | succ n ih =>
        intro f H locs ls hn hi hI hW hl
        refine lv_iload_n hx hb dX1_fork_12 rfl (lv_at hl 2 rfl) ?_
        refine o_iconst hx hb dX1_fork_13 ?_
        refine o_cge (tgt := 77) hx hb dX1_fork_14 (by decide) (by omega) (by omega) (fun c_14 => ?_) (fun c_14 => ?_)
        · refine o_bipush hx hb dX1_fork_77 (by decide) ?_
          exact o_ret (z := (-2)) E hW dX1_fork_79 (Or.inr (Or.inl ⟨by omega, fun j h1 h2 => hI j h1 (by omega), rfl, rfl⟩))
        · refine lv_aload_n hx hb dX1_fork_17 rfl (lv_at hl 0 rfl) ?_
          refine o_get E hW in_X1 rfl 0 (by decide) (v := .ref (a 1)) rfl q183 rfl dX1_fork_18 ?_
          refine lv_iload_n hx hb dX1_fork_21 rfl (lv_at hl 2 rfl) ?_
          have h_22 := hB1 f (by omega) (by omega)
          refine o_zld E hW 1 ⟨by decide, rfl⟩ (by omega) (by omega) (by decide) (z := X 1 f) rfl dX1_fork_22 ?_
          refine o_ifne (tgt := 71) hx hb dX1_fork_23 (by decide) (by omega) (fun c_23 => ?_) (fun c_23 => ?_)
          · refine o_iinc (lv' := [(2, .int (iI (f + 1))), (0, .ref h), (1, .int (iI pp))]) hx hb dX1_fork_71 hl (k := 2) rfl (by decide) rfl (fun ls hl => ?_)
            refine lv_goto (tgt := 12) hx hb dX1_fork_74 (by decide) ?_
            exact ih (f + 1)  _ _ _ (by omega) ⟨by omega, by omega⟩ (fun j h1 h2 => by rcases Int.lt_or_eq_of_le (show j ≤ f by omega) with g | g <;> first | exact hI j h1 g | (subst g; omega)) hW (lv_sub hl [1, 2, 0] rfl)
          · refine lv_aload_n hx hb dX1_fork_26 rfl (lv_at hl 0 rfl) ?_
            refine o_get E hW in_X1 rfl 0 (by decide) (v := .ref (a 1)) rfl q183 rfl dX1_fork_27 ?_
            refine lv_iload_n hx hb dX1_fork_30 rfl (lv_at hl 2 rfl) ?_
            refine o_iconst hx hb dX1_fork_31 ?_
            refine o_zst E hW 1 ⟨by decide, rfl⟩ (by omega) (by omega) (by decide) (by decide) dX1_fork_32 (fun H locs hW => ?_)
            refine o_iconst hx hb dX1_fork_33 ?_
            refine lv_istore_n (lv' := [(3, .int (iI 0)), (0, .ref h), (1, .int (iI pp)), (2, .int (iI f))]) hx hb dX1_fork_34 rfl hl (by decide) rfl (fun ls hl => ?_)
            have lp_35 : ∀ (n : Nat) (d : Int)  (Y : oS) (H : Heap) (locs : List Loc) (ls : Array Slot), 6 - d < (n : Int) → (0 ≤ d ∧ d ≤ 6) → (Y = mfk (su X 1 f 1) pp f d) → mW dM D cI cZ h a A s Y H locs → lv_has ls 4 [(0, .ref h), (1, .int (iI pp)), (2, .int (iI f)), (3, .int (iI d))] → W p l e ({ frames := 1, cells := 0, slots := 0, locals := 21 }) s m (Value.ref h :: [.int (iI pp)]).toArray below meth c H locs 0 0 (MQ below (oQc dM D cI cZ h a A (mq_fork X pp)) (Value.ref h :: [.int (iI pp)]).toArray s 0 0 A) (F0 m 35 ls []) := by
              intro n
              induction n with
              | zero =>
                intro d Y H locs ls hn hd hY hW hl
                exfalso
                omega
              | succ n ih =>
                intro d Y H locs ls hn hd hY hW hl
                refine lv_iload_n hx hb dX1_fork_35 rfl (lv_at hl 3 rfl) ?_
                refine o_bipush hx hb dX1_fork_36 (by decide) ?_
                refine o_cge (tgt := 69) hx hb dX1_fork_38 (by decide) (by omega) (by omega) (fun c_38 => ?_) (fun c_38 => ?_)
                · refine lv_iload_n hx hb dX1_fork_69 rfl (lv_at hl 2 rfl) ?_
                  exact o_ret (z := f) E hW dX1_fork_70 (Or.inr (Or.inr ⟨by omega, ⟨by omega, by omega, by omega, hI⟩, by rw [hY, show d = 6 by omega]⟩))
                · refine lv_aload_n hx hb dX1_fork_41 rfl (lv_at hl 0 rfl) ?_
                  refine o_get E hW in_X1 rfl 1 (by decide) (v := .ref (a 2)) rfl q184 rfl dX1_fork_42 ?_
                  refine o_bipush hx hb dX1_fork_45 (by decide) ?_
                  refine lv_iload_n hx hb dX1_fork_47 rfl (lv_at hl 2 rfl) ?_
                  refine o_imul hx hb dX1_fork_48 ?_
                  refine lv_iload_n hx hb dX1_fork_49 rfl (lv_at hl 3 rfl) ?_
                  refine o_iadd hx hb dX1_fork_50 ?_
                  refine lv_aload_n hx hb dX1_fork_51 rfl (lv_at hl 0 rfl) ?_
                  refine o_get E hW in_X1 rfl 1 (by decide) (v := .ref (a 2)) rfl q184 rfl dX1_fork_52 ?_
                  refine o_bipush hx hb dX1_fork_55 (by decide) ?_
                  refine lv_iload_n hx hb dX1_fork_57 rfl (lv_at hl 1 rfl) ?_
                  refine o_imul hx hb dX1_fork_58 ?_
                  refine lv_iload_n hx hb dX1_fork_59 rfl (lv_at hl 3 rfl) ?_
                  refine o_iadd hx hb dX1_fork_60 ?_
                  refine o_ld E hW 2 ⟨by decide, rfl⟩ (by omega) (by omega) (by decide) (z := Y 2 ((6 * pp) + d)) rfl dX1_fork_61 ?_
                  refine o_st E hW 2 ⟨by decide, rfl⟩ (by omega) (by omega) (by decide) dX1_fork_62 (fun H locs hW => ?_)
                  refine o_iinc (lv' := [(3, .int (iI (d + 1))), (0, .ref h), (1, .int (iI pp)), (2, .int (iI f))]) hx hb dX1_fork_63 hl (k := 3) rfl (by decide) rfl (fun ls hl => ?_)
                  refine lv_goto (tgt := 35) hx hb dX1_fork_66 (by decide) ?_
                  exact ih (d + 1)  (su Y 2 ((6 * f) + d) (Y 2 ((6 * pp) + d))) _ _ _ (by omega) ⟨by omega, by omega⟩ (mfk_s hY (by omega) (by omega)) hW (lv_sub hl [1, 2, 3, 0] rfl)
            exact lp_35 7 0  (su X 1 f 1) _ _ _ (by omega) ⟨by omega, by omega⟩ mfk_0 hW (lv_sub hl [1, 2, 3, 0] rfl)
    exact lp_12 5 0  _ _ _ (by omega) ⟨by omega, by omega⟩ (fun j h1 h2 => absurd h1 (by omega)) hW (lv_sub hl [1, 2, 0] rfl)
set_option maxHeartbeats 4000000 in
/-- exit -/
theorem mm_exit (l : Launch) (D : va_G) (cI cZ : ClassId) (h : Nat) (a : Nat → Nat) (X : oS) (pp : Int) (hp : ii_r pp) (hB1 : rg X 1 4 0 1) : oC dM l yX1_exit cX1_exit 4 (some .int) 1 21 D cI cZ h a X [.int (iI pp)] (mq_exit X pp) := by
  refine oC_of (own := RX1) (by decide) rfl (Nat.le_of_ble_eq_true rfl) rfl ?_
  intro p e s m below meth c ls A E hW hl
  have hx := E.1
  have hb := E.2.1
  have hl : lv_has ls 4 [(0, .ref h), (1, .int (iI pp))] := hl
  refine lv_aload_n hx hb dX1_exit_0 rfl (lv_at hl 0 rfl) ?_
  refine lv_iload_n hx hb dX1_exit_1 rfl (lv_at hl 1 rfl) ?_
  refine o_call (nA := 1) (As := [.int (iI pp)]) (rest := []) E hW hl (mm_dead l D cI cZ h a X pp hp hB1) (lw_V q218 q220 qs11 q22 q221) rfl (by decide +kernel) rfl ⟨Nat.le_of_ble_eq_true rfl, Nat.le_of_ble_eq_true rfl⟩ rfl (Nat.le_of_ble_eq_true rfl) ⟨Nat.le_of_ble_eq_true rfl, Nat.le_of_ble_eq_true rfl⟩ dX1_exit_2 (fun z_2 X_2 H locs hq hW => ?_)
  rcases hq with ⟨q_2, rfl, rfl⟩ | ⟨q_2, rfl, rfl⟩
  · refine o_ifeq (tgt := 10) hx hb dX1_exit_5 (by decide) (by omega) (fun q => absurd q (by decide)) (fun _ => ?_)
    refine o_iconst hx hb dX1_exit_8 ?_
    exact o_ret (z := (-1)) E hW dX1_exit_9 (Or.inl ⟨by omega, rfl, rfl⟩)
  · refine o_ifeq (tgt := 10) hx hb dX1_exit_5 (by decide) (by omega) (fun _ => ?_) (fun q => absurd q (by decide))
    refine o_iconst hx hb dX1_exit_10 ?_
    refine lv_istore_n (lv' := [(2, .int (iI 0)), (0, .ref h), (1, .int (iI pp))]) hx hb dX1_exit_11 rfl hl (by decide) rfl (fun ls hl => ?_)
    refine o_iconst hx hb dX1_exit_12 ?_
    refine lv_istore_n (lv' := [(3, .int (iI 0)), (2, .int (iI 0)), (0, .ref h), (1, .int (iI pp))]) hx hb dX1_exit_13 rfl hl (by decide) rfl (fun ls hl => ?_)
    have lp_14 : ∀ (n : Nat) (n1 : Int) (i : Int)  (H : Heap) (locs : List Loc) (ls : Array Slot), 4 - i < (n : Int) → (0 ≤ i ∧ i ≤ 4) → (n1 = cp (fun j => X 1 j ≠ 0 ∧ j ≠ pp) i.toNat) → mW dM D cI cZ h a A s X H locs → lv_has ls 4 [(0, .ref h), (1, .int (iI pp)), (2, .int (iI n1)), (3, .int (iI i))] → W p l e ({ frames := 1, cells := 0, slots := 0, locals := 21 }) s m (Value.ref h :: [.int (iI pp)]).toArray below meth c H locs 0 0 (MQ below (oQc dM D cI cZ h a A (mq_exit X pp)) (Value.ref h :: [.int (iI pp)]).toArray s 0 0 A) (F0 m 14 ls []) := by
      intro n
      induction n with
      | zero =>
        intro n1 i H locs ls hn hi hI hW hl
        exfalso
        omega
      | succ n ih =>
        intro n1 i H locs ls hn hi hI hW hl
        refine lv_iload_n hx hb dX1_exit_14 rfl (lv_at hl 3 rfl) ?_
        refine o_iconst hx hb dX1_exit_15 ?_
        refine o_cge (tgt := 42) hx hb dX1_exit_16 (by decide) (by omega) (by omega) (fun c_16 => ?_) (fun c_16 => ?_)
        · have hn1 : n1 = moc X pp := by rw [hI, show i = 4 by omega]; rfl
          have hc : 0 ≤ moc X pp ∧ moc X pp ≤ 4 := cp_r _ 4
          refine lv_iload_n hx hb dX1_exit_42 rfl (lv_at hl 2 rfl) ?_
          refine o_ifne (tgt := 48) hx hb dX1_exit_43 (by decide) (by omega) (fun c_43 => ?_) (fun c_43 => ?_)
          · refine lv_aload_n hx hb dX1_exit_48 rfl (lv_at hl 0 rfl) ?_
            refine o_get E hW in_X1 rfl 0 (by decide) (v := .ref (a 1)) rfl q183 rfl dX1_exit_49 ?_
            refine lv_iload_n hx hb dX1_exit_52 rfl (lv_at hl 1 rfl) ?_
            refine o_iconst hx hb dX1_exit_53 ?_
            refine o_zst E hW 1 ⟨by decide, rfl⟩ (by omega) (by omega) (by decide) (by decide) dX1_exit_54 (fun H locs hW => ?_)
            refine o_iconst hx hb dX1_exit_55 ?_
            refine lv_istore_n (lv' := [(3, .int (iI 0)), (0, .ref h), (1, .int (iI pp)), (2, .int (iI n1))]) hx hb dX1_exit_56 rfl hl (by decide) rfl (fun ls hl => ?_)
            have lp_57 : ∀ (n : Nat) (d : Int)  (Y : oS) (H : Heap) (locs : List Loc) (ls : Array Slot), 6 - d < (n : Int) → (0 ≤ d ∧ d ≤ 6) → (Y = mex (su X 1 pp 0) pp d) → mW dM D cI cZ h a A s Y H locs → lv_has ls 4 [(0, .ref h), (1, .int (iI pp)), (2, .int (iI n1)), (3, .int (iI d))] → W p l e ({ frames := 1, cells := 0, slots := 0, locals := 21 }) s m (Value.ref h :: [.int (iI pp)]).toArray below meth c H locs 0 0 (MQ below (oQc dM D cI cZ h a A (mq_exit X pp)) (Value.ref h :: [.int (iI pp)]).toArray s 0 0 A) (F0 m 57 ls []) := by
              intro n
              induction n with
              | zero =>
                intro d Y H locs ls hn hd hY hW hl
                exfalso
                omega
              | succ n ih =>
                intro d Y H locs ls hn hd hY hW hl
                refine lv_iload_n hx hb dX1_exit_57 rfl (lv_at hl 3 rfl) ?_
                refine o_bipush hx hb dX1_exit_58 (by decide) ?_
                refine o_cge (tgt := 81) hx hb dX1_exit_60 (by decide) (by omega) (by omega) (fun c_60 => ?_) (fun c_60 => ?_)
                · refine o_iconst hx hb dX1_exit_81 ?_
                  exact o_ret (z := 0) E hW dX1_exit_82 (Or.inr (Or.inr ⟨by omega, by omega, rfl, by rw [hY, show d = 6 by omega]⟩))
                · refine lv_aload_n hx hb dX1_exit_63 rfl (lv_at hl 0 rfl) ?_
                  refine o_get E hW in_X1 rfl 1 (by decide) (v := .ref (a 2)) rfl q184 rfl dX1_exit_64 ?_
                  refine o_bipush hx hb dX1_exit_67 (by decide) ?_
                  refine lv_iload_n hx hb dX1_exit_69 rfl (lv_at hl 1 rfl) ?_
                  refine o_imul hx hb dX1_exit_70 ?_
                  refine lv_iload_n hx hb dX1_exit_71 rfl (lv_at hl 3 rfl) ?_
                  refine o_iadd hx hb dX1_exit_72 ?_
                  refine o_iconst hx hb dX1_exit_73 ?_
                  refine o_st E hW 2 ⟨by decide, rfl⟩ (by omega) (by omega) (by decide) dX1_exit_74 (fun H locs hW => ?_)
                  refine o_iinc (lv' := [(3, .int (iI (d + 1))), (0, .ref h), (1, .int (iI pp)), (2, .int (iI n1))]) hx hb dX1_exit_75 hl (k := 3) rfl (by decide) rfl (fun ls hl => ?_)
                  refine lv_goto (tgt := 57) hx hb dX1_exit_78 (by decide) ?_
                  exact ih (d + 1)  (su Y 2 ((6 * pp) + d) (-1)) _ _ _ (by omega) ⟨by omega, by omega⟩ (mex_s hY (by omega)) hW (lv_sub hl [1, 2, 3, 0] rfl)
            exact lp_57 7 0  (su X 1 pp 0) _ _ _ (by omega) ⟨by omega, by omega⟩ mex_0 hW (lv_sub hl [1, 2, 3, 0] rfl)
          · refine o_iconst hx hb dX1_exit_46 ?_
            exact o_ret (z := (-1)) E hW dX1_exit_47 (Or.inr (Or.inl ⟨by omega, by omega, rfl, rfl⟩))
        · refine lv_aload_n hx hb dX1_exit_19 rfl (lv_at hl 0 rfl) ?_
          refine o_get E hW in_X1 rfl 0 (by decide) (v := .ref (a 1)) rfl q183 rfl dX1_exit_20 ?_
          refine lv_iload_n hx hb dX1_exit_23 rfl (lv_at hl 3 rfl) ?_
          have h_24 := hB1 i (by omega) (by omega)
          refine o_zld E hW 1 ⟨by decide, rfl⟩ (by omega) (by omega) (by decide) (z := X 1 i) rfl dX1_exit_24 ?_
          refine o_ifeq (tgt := 36) hx hb dX1_exit_25 (by decide) (by omega) (fun c_25 => ?_) (fun c_25 => ?_)
          · refine o_iinc (lv' := [(3, .int (iI (i + 1))), (0, .ref h), (1, .int (iI pp)), (2, .int (iI n1))]) hx hb dX1_exit_36 hl (k := 3) rfl (by decide) rfl (fun ls hl => ?_)
            refine lv_goto (tgt := 14) hx hb dX1_exit_39 (by decide) ?_
            exact ih n1 (i + 1)  _ _ _ (by omega) ⟨by omega, by omega⟩ (cp_n (by omega) hI (by omega)) hW (lv_sub hl [1, 2, 3, 0] rfl)
          · refine lv_iload_n hx hb dX1_exit_28 rfl (lv_at hl 3 rfl) ?_
            refine lv_iload_n hx hb dX1_exit_29 rfl (lv_at hl 1 rfl) ?_
            refine o_ceq (tgt := 36) hx hb dX1_exit_30 (by decide) (by omega) (by omega) (fun c_30 => ?_) (fun c_30 => ?_)
            · refine o_iinc (lv' := [(3, .int (iI (i + 1))), (0, .ref h), (1, .int (iI pp)), (2, .int (iI n1))]) hx hb dX1_exit_36 hl (k := 3) rfl (by decide) rfl (fun ls hl => ?_)
              refine lv_goto (tgt := 14) hx hb dX1_exit_39 (by decide) ?_
              exact ih n1 (i + 1)  _ _ _ (by omega) ⟨by omega, by omega⟩ (cp_n (by omega) hI (by omega)) hW (lv_sub hl [1, 2, 3, 0] rfl)
            · refine o_iinc (lv' := [(2, .int (iI (n1 + 1))), (0, .ref h), (1, .int (iI pp)), (3, .int (iI i))]) hx hb dX1_exit_33 hl (k := 2) rfl (by decide) rfl (fun ls hl => ?_)
              refine o_iinc (lv' := [(3, .int (iI (i + 1))), (2, .int (iI (n1 + 1))), (0, .ref h), (1, .int (iI pp))]) hx hb dX1_exit_36 hl (k := 3) rfl (by decide) rfl (fun ls hl => ?_)
              refine lv_goto (tgt := 14) hx hb dX1_exit_39 (by decide) ?_
              exact ih (n1 + 1) (i + 1)  _ _ _ (by omega) ⟨by omega, by omega⟩ (cp_y (by omega) hI (by omega)) hW (lv_sub hl [2, 3, 1, 0] rfl)
    exact lp_14 5 0 0  _ _ _ (by omega) ⟨by omega, by omega⟩ rfl hW (lv_sub hl [2, 3, 1, 0] rfl)
set_option maxHeartbeats 4000000 in
/-- write -/
theorem mm_write (l : Launch) (D : va_G) (cI cZ : ClassId) (h : Nat) (a : Nat → Nat) (X : oS) (pp : Int) (dd : Int) (vv : Int) (hp : ii_r pp) (hd : ii_r dd) (hB1 : rg X 1 4 0 1) (hB2 : rg X 2 24 (-1) 23) (hB3 : rg X 3 24 0 2) (hB4 : rg X 4 24 0 27) (hB5 : rg X 5 24 0 8) (hB7 : rg X 7 28 0 8) (hB9 : rg X 9 24 0 6) (hB45 : hasD X pp dd → X 3 (X 2 (6 * pp + dd)) ≠ 0 → X 4 (X 2 (6 * pp + dd)) ≤ 23) : oC dM l yX1_write cX1_write 6 (some .int) 2 46 D cI cZ h a X [.int (iI pp), .int (iI dd), .int (iI vv)] (mq_write X pp dd vv) := by
  refine oC_of (own := RX1) (by decide) rfl (Nat.le_of_ble_eq_true rfl) rfl ?_
  intro p e s m below meth c ls A E hW hl
  have hx := E.1
  have hb := E.2.1
  have hl : lv_has ls 6 [(0, .ref h), (1, .int (iI pp)), (2, .int (iI dd)), (3, .int (iI vv))] := hl
  refine lv_aload_n hx hb dX1_write_0 rfl (lv_at hl 0 rfl) ?_
  refine lv_iload_n hx hb dX1_write_1 rfl (lv_at hl 1 rfl) ?_
  refine lv_iload_n hx hb dX1_write_2 rfl (lv_at hl 2 rfl) ?_
  refine o_call (nA := 2) (As := [.int (iI pp), .int (iI dd)]) (rest := []) E hW hl (mm_free l D cI cZ h a X pp dd hp hd hB1 hB2) (lw_V q261 q263 qs19 q22 q264) rfl (by decide +kernel) rfl ⟨Nat.le_of_ble_eq_true rfl, Nat.le_of_ble_eq_true rfl⟩ rfl (Nat.le_of_ble_eq_true rfl) ⟨Nat.le_of_ble_eq_true rfl, Nat.le_of_ble_eq_true rfl⟩ dX1_write_3 (fun z_3 X_3 H locs hq hW => ?_)
  rcases hq with ⟨q_3, rfl, rfl⟩ | ⟨q_3, rfl, rfl⟩
  · refine o_ifeq (tgt := 11) hx hb dX1_write_6 (by decide) (by omega) (fun q => absurd q (by decide)) (fun _ => ?_)
    refine o_iconst hx hb dX1_write_9 ?_
    exact o_ret (z := (-1)) E hW dX1_write_10 (Or.inl ⟨by omega, rfl, rfl⟩)
  · refine o_ifeq (tgt := 11) hx hb dX1_write_6 (by decide) (by omega) (fun _ => ?_) (fun q => absurd q (by decide))
    refine lv_aload_n hx hb dX1_write_11 rfl (lv_at hl 0 rfl) ?_
    refine o_get E hW in_X1 rfl 1 (by decide) (v := .ref (a 2)) rfl q184 rfl dX1_write_12 ?_
    refine o_bipush hx hb dX1_write_15 (by decide) ?_
    refine lv_iload_n hx hb dX1_write_17 rfl (lv_at hl 1 rfl) ?_
    refine o_imul hx hb dX1_write_18 ?_
    refine lv_iload_n hx hb dX1_write_19 rfl (lv_at hl 2 rfl) ?_
    refine o_iadd hx hb dX1_write_20 ?_
    have h_21 := hB2 ((6 * pp) + dd) (by omega) (by omega)
    refine o_ld E hW 2 ⟨by decide, rfl⟩ (by omega) (by omega) (by decide) (z := X 2 ((6 * pp) + dd)) rfl dX1_write_21 ?_
    refine lv_istore (lv' := [(4, .int (iI (X 2 ((6 * pp) + dd)))), (0, .ref h), (1, .int (iI pp)), (2, .int (iI dd)), (3, .int (iI vv))]) hx hb dX1_write_22 hl (by decide) rfl (fun ls hl => ?_)
    refine lv_aload_n hx hb dX1_write_24 rfl (lv_at hl 1 rfl) ?_
    refine o_get E hW in_X1 rfl 3 (by decide) (v := .ref (a 4)) rfl q186 rfl dX1_write_25 ?_
    refine lv_iload hx hb dX1_write_28 (lv_at hl 0 rfl) ?_
    have h_30 := hB4 (X 2 ((6 * pp) + dd)) (by omega) (by omega)
    refine o_ld E hW 4 ⟨by decide, rfl⟩ (by omega) (by omega) (by decide) (z := X 4 (X 2 ((6 * pp) + dd))) rfl dX1_write_30 ?_
    refine lv_istore (lv' := [(5, .int (iI (X 4 (X 2 ((6 * pp) + dd))))), (4, .int (iI (X 2 ((6 * pp) + dd)))), (0, .ref h), (1, .int (iI pp)), (2, .int (iI dd)), (3, .int (iI vv))]) hx hb dX1_write_31 hl (by decide) rfl (fun ls hl => ?_)
    refine lv_aload_n hx hb dX1_write_33 rfl (lv_at hl 2 rfl) ?_
    refine o_get E hW in_X1 rfl 2 (by decide) (v := .ref (a 3)) rfl q185 rfl dX1_write_34 ?_
    refine lv_iload hx hb dX1_write_37 (lv_at hl 1 rfl) ?_
    have h_39 := hB3 (X 2 ((6 * pp) + dd)) (by omega) (by omega)
    refine o_ld E hW 3 ⟨by decide, rfl⟩ (by omega) (by omega) (by decide) (z := X 3 (X 2 ((6 * pp) + dd))) rfl dX1_write_39 ?_
    refine o_iconst hx hb dX1_write_40 ?_
    refine o_cne (tgt := 46) hx hb dX1_write_41 (by decide) (by omega) (by omega) (fun c_41 => ?_) (fun c_41 => ?_)
    · refine lv_aload_n hx hb dX1_write_46 rfl (lv_at hl 2 rfl) ?_
      refine o_get E hW in_X1 rfl 2 (by decide) (v := .ref (a 3)) rfl q185 rfl dX1_write_47 ?_
      refine lv_iload hx hb dX1_write_50 (lv_at hl 1 rfl) ?_
      have h_52 := hB3 (X 2 ((6 * pp) + dd)) (by omega) (by omega)
      refine o_ld E hW 3 ⟨by decide, rfl⟩ (by omega) (by omega) (by decide) (z := X 3 (X 2 ((6 * pp) + dd))) rfl dX1_write_52 ?_
      refine o_iconst hx hb dX1_write_53 ?_
      refine o_cne (tgt := 121) hx hb dX1_write_54 (by decide) (by omega) (by omega) (fun c_54 => ?_) (fun c_54 => ?_)
      · refine lv_aload_n hx hb dX1_write_121 rfl (lv_at hl 2 rfl) ?_
        refine o_get E hW in_X1 rfl 4 (by decide) (v := .ref (a 5)) rfl q187 rfl dX1_write_122 ?_
        refine lv_iload hx hb dX1_write_125 (lv_at hl 1 rfl) ?_
        have h_127 := hB5 (X 2 ((6 * pp) + dd)) (by omega) (by omega)
        refine o_ld E hW 5 ⟨by decide, rfl⟩ (by omega) (by omega) (by decide) (z := X 5 (X 2 ((6 * pp) + dd))) rfl dX1_write_127 ?_
        refine o_bipush hx hb dX1_write_128 (by decide) ?_
        refine o_cne (tgt := 136) hx hb dX1_write_130 (by decide) (by omega) (by omega) (fun c_130 => ?_) (fun c_130 => ?_)
        · refine lv_aload_n hx hb dX1_write_136 rfl (lv_at hl 2 rfl) ?_
          refine o_get E hW in_X1 rfl 7 (by decide) (v := .ref (a 8)) rfl q190 rfl dX1_write_137 ?_
          refine o_bipush hx hb dX1_write_140 (by decide) ?_
          refine lv_iload hx hb dX1_write_142 (lv_at hl 0 rfl) ?_
          refine o_imul hx hb dX1_write_144 ?_
          refine lv_aload_n hx hb dX1_write_145 rfl (lv_at hl 2 rfl) ?_
          refine o_get E hW in_X1 rfl 4 (by decide) (v := .ref (a 5)) rfl q187 rfl dX1_write_146 ?_
          refine lv_iload hx hb dX1_write_149 (lv_at hl 1 rfl) ?_
          have h_151 := hB5 (X 2 ((6 * pp) + dd)) (by omega) (by omega)
          refine o_ld E hW 5 ⟨by decide, rfl⟩ (by omega) (by omega) (by decide) (z := X 5 (X 2 ((6 * pp) + dd))) rfl dX1_write_151 ?_
          refine o_iadd hx hb dX1_write_152 ?_
          refine lv_iload_n hx hb dX1_write_153 rfl (lv_at hl 5 rfl) ?_
          refine o_sipush hx hb dX1_write_154 (by decide) ?_
          refine o_iand hx hb dX1_write_157 ?_
          refine o_st E hW 8 ⟨by decide, rfl⟩ (by omega) (by omega) (by decide) dX1_write_158 (fun H locs hW => ?_)
          refine lv_aload_n hx hb dX1_write_159 rfl (lv_at hl 2 rfl) ?_
          refine o_get E hW in_X1 rfl 4 (by decide) (v := .ref (a 5)) rfl q187 rfl dX1_write_160 ?_
          refine lv_iload hx hb dX1_write_163 (lv_at hl 1 rfl) ?_
          have h_165 := hB5 (X 2 ((6 * pp) + dd)) (by omega) (by omega)
          refine o_ld E hW 5 ⟨by decide, rfl⟩ (by omega) (by omega) (by decide) (z := X 5 (X 2 ((6 * pp) + dd))) (su_k (by decide)) dX1_write_165 ?_
          refine lv_aload_n hx hb dX1_write_166 rfl (lv_at hl 2 rfl) ?_
          refine o_get E hW in_X1 rfl 6 (by decide) (v := .ref (a 7)) rfl q189 rfl dX1_write_167 ?_
          refine lv_iload hx hb dX1_write_170 (lv_at hl 0 rfl) ?_
          have h_172 := hB7 (X 4 (X 2 ((6 * pp) + dd))) (by omega) (by omega)
          refine o_ld E hW 7 ⟨by decide, rfl⟩ (by omega) (by omega) (by decide) (z := X 7 (X 4 (X 2 ((6 * pp) + dd)))) (su_k (by decide)) dX1_write_172 ?_
          refine o_cne (tgt := 187) hx hb dX1_write_173 (by decide) (by omega) (by omega) (fun c_173 => ?_) (fun c_173 => ?_)
          · refine lv_aload_n hx hb dX1_write_187 rfl (lv_at hl 2 rfl) ?_
            refine o_get E hW in_X1 rfl 4 (by decide) (v := .ref (a 5)) rfl q187 rfl dX1_write_188 ?_
            refine lv_iload hx hb dX1_write_191 (lv_at hl 1 rfl) ?_
            refine lv_dup2_11 hx hb dX1_write_193 rfl rfl ?_
            have h_194 := hB5 (X 2 ((6 * pp) + dd)) (by omega) (by omega)
            refine o_ld E hW 5 ⟨by decide, rfl⟩ (by omega) (by omega) (by decide) (z := X 5 (X 2 ((6 * pp) + dd))) (su_k (by decide)) dX1_write_194 ?_
            refine o_iconst hx hb dX1_write_195 ?_
            refine o_iadd hx hb dX1_write_196 ?_
            refine o_st E hW 5 ⟨by decide, rfl⟩ (by omega) (by omega) (by decide) dX1_write_197 (fun H locs hW => ?_)
            refine o_iconst hx hb dX1_write_198 ?_
            exact o_ret (z := 0) E hW dX1_write_199 (Or.inr (Or.inr ⟨by omega, by omega, by omega, Or.inr (Or.inr ⟨by omega, by omega, rfl, rfl⟩)⟩))
          · refine lv_aload_n hx hb dX1_write_176 rfl (lv_at hl 2 rfl) ?_
            refine o_get E hW in_X1 rfl 6 (by decide) (v := .ref (a 7)) rfl q189 rfl dX1_write_177 ?_
            refine lv_iload hx hb dX1_write_180 (lv_at hl 0 rfl) ?_
            refine lv_dup2_11 hx hb dX1_write_182 rfl rfl ?_
            have h_183 := hB7 (X 4 (X 2 ((6 * pp) + dd))) (by omega) (by omega)
            refine o_ld E hW 7 ⟨by decide, rfl⟩ (by omega) (by omega) (by decide) (z := X 7 (X 4 (X 2 ((6 * pp) + dd)))) (su_k (by decide)) dX1_write_183 ?_
            refine o_iconst hx hb dX1_write_184 ?_
            refine o_iadd hx hb dX1_write_185 ?_
            refine o_st E hW 7 ⟨by decide, rfl⟩ (by omega) (by omega) (by decide) dX1_write_186 (fun H locs hW => ?_)
            refine lv_aload_n hx hb dX1_write_187 rfl (lv_at hl 2 rfl) ?_
            refine o_get E hW in_X1 rfl 4 (by decide) (v := .ref (a 5)) rfl q187 rfl dX1_write_188 ?_
            refine lv_iload hx hb dX1_write_191 (lv_at hl 1 rfl) ?_
            refine lv_dup2_11 hx hb dX1_write_193 rfl rfl ?_
            have h_194 := hB5 (X 2 ((6 * pp) + dd)) (by omega) (by omega)
            refine o_ld E hW 5 ⟨by decide, rfl⟩ (by omega) (by omega) (by decide) (z := X 5 (X 2 ((6 * pp) + dd))) ((su_k (by decide)).trans (su_k (by decide))) dX1_write_194 ?_
            refine o_iconst hx hb dX1_write_195 ?_
            refine o_iadd hx hb dX1_write_196 ?_
            refine o_st E hW 5 ⟨by decide, rfl⟩ (by omega) (by omega) (by decide) dX1_write_197 (fun H locs hW => ?_)
            refine o_iconst hx hb dX1_write_198 ?_
            exact o_ret (z := 0) E hW dX1_write_199 (Or.inr (Or.inr ⟨by omega, by omega, by omega, Or.inr (Or.inl ⟨by omega, by omega, rfl, rfl⟩)⟩))
        · refine o_bipush hx hb dX1_write_133 (by decide) ?_
          exact o_ret (z := (-2)) E hW dX1_write_135 (Or.inr (Or.inr ⟨by omega, by omega, by omega, Or.inl ⟨by omega, rfl, rfl⟩⟩))
      · have h45 := hB45 ⟨by omega, by omega, by omega, by omega⟩ (by omega)
        refine lv_aload_n hx hb dX1_write_57 rfl (lv_at hl 2 rfl) ?_
        refine o_iconst hx hb dX1_write_58 ?_
        refine lv_iload hx hb dX1_write_59 (lv_at hl 0 rfl) ?_
        refine o_call (nA := 2) (As := [.int (iI 1), .int (iI (X 4 (X 2 ((6 * pp) + dd))))]) (rest := []) E hW hl (mm_hasOpening l D cI cZ h a X 1 (X 4 (X 2 ((6 * pp) + dd))) (by omega) (by omega) hB2 hB3 hB4) (lw_V q237 q239 qs15 q22 q240) rfl (by decide +kernel) rfl ⟨Nat.le_of_ble_eq_true rfl, Nat.le_of_ble_eq_true rfl⟩ rfl (Nat.le_of_ble_eq_true rfl) ⟨Nat.le_of_ble_eq_true rfl, Nat.le_of_ble_eq_true rfl⟩ dX1_write_61 (fun z_61 X_61 H locs hq hW => ?_)
        rcases hq with ⟨q_61, rfl, rfl⟩ | ⟨q_61, rfl, rfl⟩
        · refine o_ifne (tgt := 70) hx hb dX1_write_64 (by decide) (by omega) (fun _ => ?_) (fun q => absurd q (by decide))
          refine lv_aload_n hx hb dX1_write_70 rfl (lv_at hl 2 rfl) ?_
          refine o_get E hW in_X1 rfl 8 (by decide) (v := .ref (a 9)) rfl q191 rfl dX1_write_71 ?_
          refine lv_iload hx hb dX1_write_74 (lv_at hl 0 rfl) ?_
          have h_76 := hB9 (X 4 (X 2 ((6 * pp) + dd))) (by omega) (by omega)
          refine o_ld E hW 9 ⟨by decide, rfl⟩ (by omega) (by omega) (by decide) (z := X 9 (X 4 (X 2 ((6 * pp) + dd)))) rfl dX1_write_76 ?_
          refine o_bipush hx hb dX1_write_77 (by decide) ?_
          refine o_cne (tgt := 85) hx hb dX1_write_79 (by decide) (by omega) (by omega) (fun c_79 => ?_) (fun c_79 => ?_)
          · refine lv_aload_n hx hb dX1_write_85 rfl (lv_at hl 2 rfl) ?_
            refine o_get E hW in_X1 rfl 9 (by decide) (v := .ref (a 10)) rfl q192 rfl dX1_write_86 ?_
            refine o_bipush hx hb dX1_write_89 (by decide) ?_
            refine lv_iload hx hb dX1_write_91 (lv_at hl 0 rfl) ?_
            refine o_imul hx hb dX1_write_93 ?_
            refine lv_aload_n hx hb dX1_write_94 rfl (lv_at hl 2 rfl) ?_
            refine o_get E hW in_X1 rfl 8 (by decide) (v := .ref (a 9)) rfl q191 rfl dX1_write_95 ?_
            refine lv_iload hx hb dX1_write_98 (lv_at hl 0 rfl) ?_
            have h_100 := hB9 (X 4 (X 2 ((6 * pp) + dd))) (by omega) (by omega)
            refine o_ld E hW 9 ⟨by decide, rfl⟩ (by omega) (by omega) (by decide) (z := X 9 (X 4 (X 2 ((6 * pp) + dd)))) rfl dX1_write_100 ?_
            refine o_iadd hx hb dX1_write_101 ?_
            refine lv_iload_n hx hb dX1_write_102 rfl (lv_at hl 5 rfl) ?_
            refine o_sipush hx hb dX1_write_103 (by decide) ?_
            refine o_iand hx hb dX1_write_106 ?_
            refine o_st E hW 10 ⟨by decide, rfl⟩ (by omega) (by omega) (by decide) dX1_write_107 (fun H locs hW => ?_)
            refine lv_aload_n hx hb dX1_write_108 rfl (lv_at hl 2 rfl) ?_
            refine o_get E hW in_X1 rfl 8 (by decide) (v := .ref (a 9)) rfl q191 rfl dX1_write_109 ?_
            refine lv_iload hx hb dX1_write_112 (lv_at hl 0 rfl) ?_
            refine lv_dup2_11 hx hb dX1_write_114 rfl rfl ?_
            have h_115 := hB9 (X 4 (X 2 ((6 * pp) + dd))) (by omega) (by omega)
            refine o_ld E hW 9 ⟨by decide, rfl⟩ (by omega) (by omega) (by decide) (z := X 9 (X 4 (X 2 ((6 * pp) + dd)))) (su_k (by decide)) dX1_write_115 ?_
            refine o_iconst hx hb dX1_write_116 ?_
            refine o_iadd hx hb dX1_write_117 ?_
            refine o_st E hW 9 ⟨by decide, rfl⟩ (by omega) (by omega) (by decide) dX1_write_118 (fun H locs hW => ?_)
            refine o_iconst hx hb dX1_write_119 ?_
            exact o_ret (z := 0) E hW dX1_write_120 (Or.inr (Or.inl ⟨by omega, by omega, Or.inr (Or.inr ⟨q_61, by omega, rfl, rfl⟩)⟩))
          · refine o_bipush hx hb dX1_write_82 (by decide) ?_
            exact o_ret (z := (-4)) E hW dX1_write_84 (Or.inr (Or.inl ⟨by omega, by omega, Or.inr (Or.inl ⟨q_61, by omega, rfl, rfl⟩)⟩))
        · refine o_ifne (tgt := 70) hx hb dX1_write_64 (by decide) (by omega) (fun q => absurd q (by decide)) (fun _ => ?_)
          refine o_bipush hx hb dX1_write_67 (by decide) ?_
          exact o_ret (z := (-3)) E hW dX1_write_69 (Or.inr (Or.inl ⟨by omega, by omega, Or.inl ⟨q_61, rfl, rfl⟩⟩))
    · refine o_iconst hx hb dX1_write_44 ?_
      exact o_ret (z := (-1)) E hW dX1_write_45 (Or.inl ⟨by omega, rfl, rfl⟩)
set_option maxHeartbeats 4000000 in
/-- read -/
theorem mm_read (l : Launch) (D : va_G) (cI cZ : ClassId) (h : Nat) (a : Nat → Nat) (X : oS) (pp : Int) (dd : Int) (hp : ii_r pp) (hd : ii_r dd) (hB1 : rg X 1 4 0 1) (hB2 : rg X 2 24 (-1) 23) (hB3 : rg X 3 24 0 2) (hB4 : rg X 4 24 0 27) (hB5 : rg X 5 24 0 8) (hB7 : rg X 7 28 0 8) (hB9 : rg X 9 24 0 6) (hB45 : hasD X pp dd → X 3 (X 2 (6 * pp + dd)) ≠ 0 → X 4 (X 2 (6 * pp + dd)) ≤ 23) (hL : hasD X pp dd → X 3 (X 2 (6 * pp + dd)) = 0 → X 5 (X 2 (6 * pp + dd)) ≤ X 7 (X 4 (X 2 (6 * pp + dd)))) : oC dM l yX1_read cX1_read 7 (some .int) 2 46 D cI cZ h a X [.int (iI pp), .int (iI dd)] (mq_read X pp dd) := by
  refine oC_of (own := RX1) (by decide) rfl (Nat.le_of_ble_eq_true rfl) rfl ?_
  intro p e s m below meth c ls A E hW hl
  have hx := E.1
  have hb := E.2.1
  have hl : lv_has ls 7 [(0, .ref h), (1, .int (iI pp)), (2, .int (iI dd))] := hl
  refine lv_aload_n hx hb dX1_read_0 rfl (lv_at hl 0 rfl) ?_
  refine lv_iload_n hx hb dX1_read_1 rfl (lv_at hl 1 rfl) ?_
  refine lv_iload_n hx hb dX1_read_2 rfl (lv_at hl 2 rfl) ?_
  refine o_call (nA := 2) (As := [.int (iI pp), .int (iI dd)]) (rest := []) E hW hl (mm_free l D cI cZ h a X pp dd hp hd hB1 hB2) (lw_V q261 q263 qs19 q22 q264) rfl (by decide +kernel) rfl ⟨Nat.le_of_ble_eq_true rfl, Nat.le_of_ble_eq_true rfl⟩ rfl (Nat.le_of_ble_eq_true rfl) ⟨Nat.le_of_ble_eq_true rfl, Nat.le_of_ble_eq_true rfl⟩ dX1_read_3 (fun z_3 X_3 H locs hq hW => ?_)
  rcases hq with ⟨q_3, rfl, rfl⟩ | ⟨q_3, rfl, rfl⟩
  · refine o_ifeq (tgt := 11) hx hb dX1_read_6 (by decide) (by omega) (fun q => absurd q (by decide)) (fun _ => ?_)
    refine o_iconst hx hb dX1_read_9 ?_
    exact o_ret (z := (-1)) E hW dX1_read_10 (Or.inl ⟨by omega, rfl, rfl⟩)
  · refine o_ifeq (tgt := 11) hx hb dX1_read_6 (by decide) (by omega) (fun _ => ?_) (fun q => absurd q (by decide))
    refine lv_aload_n hx hb dX1_read_11 rfl (lv_at hl 0 rfl) ?_
    refine o_get E hW in_X1 rfl 1 (by decide) (v := .ref (a 2)) rfl q184 rfl dX1_read_12 ?_
    refine o_bipush hx hb dX1_read_15 (by decide) ?_
    refine lv_iload_n hx hb dX1_read_17 rfl (lv_at hl 1 rfl) ?_
    refine o_imul hx hb dX1_read_18 ?_
    refine lv_iload_n hx hb dX1_read_19 rfl (lv_at hl 2 rfl) ?_
    refine o_iadd hx hb dX1_read_20 ?_
    have h_21 := hB2 ((6 * pp) + dd) (by omega) (by omega)
    refine o_ld E hW 2 ⟨by decide, rfl⟩ (by omega) (by omega) (by decide) (z := X 2 ((6 * pp) + dd)) rfl dX1_read_21 ?_
    refine lv_istore_n (lv' := [(3, .int (iI (X 2 ((6 * pp) + dd)))), (0, .ref h), (1, .int (iI pp)), (2, .int (iI dd))]) hx hb dX1_read_22 rfl hl (by decide) rfl (fun ls hl => ?_)
    refine lv_aload_n hx hb dX1_read_23 rfl (lv_at hl 1 rfl) ?_
    refine o_get E hW in_X1 rfl 3 (by decide) (v := .ref (a 4)) rfl q186 rfl dX1_read_24 ?_
    refine lv_iload_n hx hb dX1_read_27 rfl (lv_at hl 0 rfl) ?_
    have h_28 := hB4 (X 2 ((6 * pp) + dd)) (by omega) (by omega)
    refine o_ld E hW 4 ⟨by decide, rfl⟩ (by omega) (by omega) (by decide) (z := X 4 (X 2 ((6 * pp) + dd))) rfl dX1_read_28 ?_
    refine lv_istore (lv' := [(4, .int (iI (X 4 (X 2 ((6 * pp) + dd))))), (3, .int (iI (X 2 ((6 * pp) + dd)))), (0, .ref h), (1, .int (iI pp)), (2, .int (iI dd))]) hx hb dX1_read_29 hl (by decide) rfl (fun ls hl => ?_)
    refine lv_aload_n hx hb dX1_read_31 rfl (lv_at hl 2 rfl) ?_
    refine o_get E hW in_X1 rfl 2 (by decide) (v := .ref (a 3)) rfl q185 rfl dX1_read_32 ?_
    refine lv_iload_n hx hb dX1_read_35 rfl (lv_at hl 1 rfl) ?_
    have h_36 := hB3 (X 2 ((6 * pp) + dd)) (by omega) (by omega)
    refine o_ld E hW 3 ⟨by decide, rfl⟩ (by omega) (by omega) (by decide) (z := X 3 (X 2 ((6 * pp) + dd))) rfl dX1_read_36 ?_
    refine o_iconst hx hb dX1_read_37 ?_
    refine o_cne (tgt := 43) hx hb dX1_read_38 (by decide) (by omega) (by omega) (fun c_38 => ?_) (fun c_38 => ?_)
    · refine lv_aload_n hx hb dX1_read_43 rfl (lv_at hl 2 rfl) ?_
      refine o_get E hW in_X1 rfl 2 (by decide) (v := .ref (a 3)) rfl q185 rfl dX1_read_44 ?_
      refine lv_iload_n hx hb dX1_read_47 rfl (lv_at hl 1 rfl) ?_
      have h_48 := hB3 (X 2 ((6 * pp) + dd)) (by omega) (by omega)
      refine o_ld E hW 3 ⟨by decide, rfl⟩ (by omega) (by omega) (by decide) (z := X 3 (X 2 ((6 * pp) + dd))) rfl dX1_read_48 ?_
      refine o_iconst hx hb dX1_read_49 ?_
      refine o_cne (tgt := 156) hx hb dX1_read_50 (by decide) (by omega) (by omega) (fun c_50 => ?_) (fun c_50 => ?_)
      · have hL := hL ⟨by omega, by omega, by omega, by omega⟩ (by omega)
        refine lv_aload_n hx hb dX1_read_156 rfl (lv_at hl 2 rfl) ?_
        refine o_get E hW in_X1 rfl 4 (by decide) (v := .ref (a 5)) rfl q187 rfl dX1_read_157 ?_
        refine lv_iload_n hx hb dX1_read_160 rfl (lv_at hl 1 rfl) ?_
        have h_161 := hB5 (X 2 ((6 * pp) + dd)) (by omega) (by omega)
        refine o_ld E hW 5 ⟨by decide, rfl⟩ (by omega) (by omega) (by decide) (z := X 5 (X 2 ((6 * pp) + dd))) rfl dX1_read_161 ?_
        refine lv_aload_n hx hb dX1_read_162 rfl (lv_at hl 2 rfl) ?_
        refine o_get E hW in_X1 rfl 6 (by decide) (v := .ref (a 7)) rfl q189 rfl dX1_read_163 ?_
        refine lv_iload hx hb dX1_read_166 (lv_at hl 0 rfl) ?_
        have h_168 := hB7 (X 4 (X 2 ((6 * pp) + dd))) (by omega) (by omega)
        refine o_ld E hW 7 ⟨by decide, rfl⟩ (by omega) (by omega) (by decide) (z := X 7 (X 4 (X 2 ((6 * pp) + dd)))) rfl dX1_read_168 ?_
        refine o_cne (tgt := 175) hx hb dX1_read_169 (by decide) (by omega) (by omega) (fun c_169 => ?_) (fun c_169 => ?_)
        · refine lv_aload_n hx hb dX1_read_175 rfl (lv_at hl 2 rfl) ?_
          refine o_get E hW in_X1 rfl 4 (by decide) (v := .ref (a 5)) rfl q187 rfl dX1_read_176 ?_
          refine lv_iload_n hx hb dX1_read_179 rfl (lv_at hl 1 rfl) ?_
          refine lv_dup2_11 hx hb dX1_read_180 rfl rfl ?_
          have h_181 := hB5 (X 2 ((6 * pp) + dd)) (by omega) (by omega)
          refine o_ld E hW 5 ⟨by decide, rfl⟩ (by omega) (by omega) (by decide) (z := X 5 (X 2 ((6 * pp) + dd))) rfl dX1_read_181 ?_
          refine o_iconst hx hb dX1_read_182 ?_
          refine o_iadd hx hb dX1_read_183 ?_
          refine o_st E hW 5 ⟨by decide, rfl⟩ (by omega) (by omega) (by decide) dX1_read_184 (fun H locs hW => ?_)
          refine lv_aload_n hx hb dX1_read_185 rfl (lv_at hl 2 rfl) ?_
          refine o_get E hW in_X1 rfl 7 (by decide) (v := .ref (a 8)) rfl q190 rfl dX1_read_186 ?_
          refine o_bipush hx hb dX1_read_189 (by decide) ?_
          refine lv_iload hx hb dX1_read_191 (lv_at hl 0 rfl) ?_
          refine o_imul hx hb dX1_read_193 ?_
          refine lv_aload_n hx hb dX1_read_194 rfl (lv_at hl 2 rfl) ?_
          refine o_get E hW in_X1 rfl 4 (by decide) (v := .ref (a 5)) rfl q187 rfl dX1_read_195 ?_
          refine lv_iload_n hx hb dX1_read_198 rfl (lv_at hl 1 rfl) ?_
          refine o_ld E hW 5 ⟨by decide, rfl⟩ (by omega) (by omega) (by decide) (z := (X 5 (X 2 ((6 * pp) + dd))) + 1) (su_s) dX1_read_199 ?_
          refine o_iadd hx hb dX1_read_200 ?_
          refine o_iconst hx hb dX1_read_201 ?_
          refine o_isub hx hb dX1_read_202 ?_
          refine o_ld E hW 8 ⟨by decide, rfl⟩ (by omega) (by omega) (by decide) (z := X 8 (((8 * (X 4 (X 2 ((6 * pp) + dd)))) + ((X 5 (X 2 ((6 * pp) + dd))) + 1)) - 1)) (su_k (by decide)) dX1_read_203 ?_
          exact o_ret (z := (X 8 (((8 * (X 4 (X 2 ((6 * pp) + dd)))) + ((X 5 (X 2 ((6 * pp) + dd))) + 1)) - 1))) E hW dX1_read_204 (Or.inr (Or.inr ⟨by omega, by omega, by omega, Or.inr ⟨by omega, rfl, rfl⟩⟩))
        · refine o_bipush hx hb dX1_read_172 (by decide) ?_
          exact o_ret (z := (-5)) E hW dX1_read_174 (Or.inr (Or.inr ⟨by omega, by omega, by omega, Or.inl ⟨by omega, rfl, rfl⟩⟩))
      · have h45 := hB45 ⟨by omega, by omega, by omega, by omega⟩ (by omega)
        refine lv_aload_n hx hb dX1_read_53 rfl (lv_at hl 2 rfl) ?_
        refine o_get E hW in_X1 rfl 8 (by decide) (v := .ref (a 9)) rfl q191 rfl dX1_read_54 ?_
        refine lv_iload hx hb dX1_read_57 (lv_at hl 0 rfl) ?_
        have h_59 := hB9 (X 4 (X 2 ((6 * pp) + dd))) (by omega) (by omega)
        refine o_ld E hW 9 ⟨by decide, rfl⟩ (by omega) (by omega) (by decide) (z := X 9 (X 4 (X 2 ((6 * pp) + dd)))) rfl dX1_read_59 ?_
        refine o_ifne (tgt := 81) hx hb dX1_read_60 (by decide) (by omega) (fun c_60 => ?_) (fun c_60 => ?_)
        · refine lv_aload_n hx hb dX1_read_81 rfl (lv_at hl 2 rfl) ?_
          refine o_get E hW in_X1 rfl 9 (by decide) (v := .ref (a 10)) rfl q192 rfl dX1_read_82 ?_
          refine o_bipush hx hb dX1_read_85 (by decide) ?_
          refine lv_iload hx hb dX1_read_87 (lv_at hl 0 rfl) ?_
          refine o_imul hx hb dX1_read_89 ?_
          refine o_ld E hW 10 ⟨by decide, rfl⟩ (by omega) (by omega) (by decide) (z := X 10 (6 * (X 4 (X 2 ((6 * pp) + dd))))) rfl dX1_read_90 ?_
          refine lv_istore (lv' := [(5, .int (iI (X 10 (6 * (X 4 (X 2 ((6 * pp) + dd))))))), (4, .int (iI (X 4 (X 2 ((6 * pp) + dd))))), (3, .int (iI (X 2 ((6 * pp) + dd)))), (0, .ref h), (1, .int (iI pp)), (2, .int (iI dd))]) hx hb dX1_read_91 hl (by decide) rfl (fun ls hl => ?_)
          refine lv_aload_n hx hb dX1_read_93 rfl (lv_at hl 3 rfl) ?_
          refine o_get E hW in_X1 rfl 8 (by decide) (v := .ref (a 9)) rfl q191 rfl dX1_read_94 ?_
          refine lv_iload hx hb dX1_read_97 (lv_at hl 1 rfl) ?_
          refine lv_dup2_11 hx hb dX1_read_99 rfl rfl ?_
          have h_100 := hB9 (X 4 (X 2 ((6 * pp) + dd))) (by omega) (by omega)
          refine o_ld E hW 9 ⟨by decide, rfl⟩ (by omega) (by omega) (by decide) (z := X 9 (X 4 (X 2 ((6 * pp) + dd)))) rfl dX1_read_100 ?_
          refine o_iconst hx hb dX1_read_101 ?_
          refine o_isub hx hb dX1_read_102 ?_
          refine o_st E hW 9 ⟨by decide, rfl⟩ (by omega) (by omega) (by decide) dX1_read_103 (fun H locs hW => ?_)
          refine o_iconst hx hb dX1_read_104 ?_
          refine lv_istore (lv' := [(6, .int (iI 0)), (5, .int (iI (X 10 (6 * (X 4 (X 2 ((6 * pp) + dd))))))), (4, .int (iI (X 4 (X 2 ((6 * pp) + dd))))), (3, .int (iI (X 2 ((6 * pp) + dd)))), (0, .ref h), (1, .int (iI pp)), (2, .int (iI dd))]) hx hb dX1_read_105 hl (by decide) rfl (fun ls hl => ?_)
          have lp_107 : ∀ (n : Nat) (i : Int)  (Y : oS) (H : Heap) (locs : List Loc) (ls : Array Slot), X 9 (X 4 (X 2 ((6 * pp) + dd))) - i < (n : Int) → (0 ≤ i ∧ i ≤ X 9 (X 4 (X 2 ((6 * pp) + dd))) - 1) → (Y = msh (su X 9 (X 4 (X 2 ((6 * pp) + dd))) (X 9 (X 4 (X 2 ((6 * pp) + dd))) - 1)) (X 4 (X 2 ((6 * pp) + dd))) i) → mW dM D cI cZ h a A s Y H locs → lv_has ls 7 [(0, .ref h), (1, .int (iI pp)), (2, .int (iI dd)), (3, .int (iI (X 2 ((6 * pp) + dd)))), (4, .int (iI (X 4 (X 2 ((6 * pp) + dd))))), (5, .int (iI (X 10 (6 * (X 4 (X 2 ((6 * pp) + dd))))))), (6, .int (iI i))] → W p l e ({ frames := 2, cells := 0, slots := 0, locals := 46 }) s m (Value.ref h :: [.int (iI pp), .int (iI dd)]).toArray below meth c H locs 0 0 (MQ below (oQc dM D cI cZ h a A (mq_read X pp dd)) (Value.ref h :: [.int (iI pp), .int (iI dd)]).toArray s 0 0 A) (F0 m 107 ls []) := by
            intro n
            induction n with
            | zero =>
              intro i Y H locs ls hn hi hY hW hl
              exfalso
              omega
            | succ n ih =>
              intro i Y H locs ls hn hi hY hW hl
              have h9 := msh_9 (i := (X 4 (X 2 ((6 * pp) + dd)))) hY
              rw [su_s] at h9
              refine lv_iload hx hb dX1_read_107 (lv_at hl 6 rfl) ?_
              refine lv_aload_n hx hb dX1_read_109 rfl (lv_at hl 0 rfl) ?_
              refine o_get E hW in_X1 rfl 8 (by decide) (v := .ref (a 9)) rfl q191 rfl dX1_read_110 ?_
              refine lv_iload hx hb dX1_read_113 (lv_at hl 4 rfl) ?_
              refine o_ld E hW 9 ⟨by decide, rfl⟩ (by omega) (by omega) (by decide) (z := Y 9 (X 4 (X 2 ((6 * pp) + dd)))) rfl dX1_read_115 ?_
              refine o_cge (tgt := 153) hx hb dX1_read_116 (by decide) (by omega) (by omega) (fun c_116 => ?_) (fun c_116 => ?_)
              · refine lv_iload hx hb dX1_read_153 (lv_at hl 5 rfl) ?_
                exact o_ret (z := (X 10 (6 * (X 4 (X 2 ((6 * pp) + dd)))))) E hW dX1_read_155 (Or.inr (Or.inl ⟨by omega, by omega, Or.inr (Or.inr ⟨by omega, rfl, by rw [hY, show i = X 9 (X 4 (X 2 ((6 * pp) + dd))) - 1 by omega]⟩)⟩))
              · refine lv_aload_n hx hb dX1_read_119 rfl (lv_at hl 0 rfl) ?_
                refine o_get E hW in_X1 rfl 9 (by decide) (v := .ref (a 10)) rfl q192 rfl dX1_read_120 ?_
                refine o_bipush hx hb dX1_read_123 (by decide) ?_
                refine lv_iload hx hb dX1_read_125 (lv_at hl 4 rfl) ?_
                refine o_imul hx hb dX1_read_127 ?_
                refine lv_iload hx hb dX1_read_128 (lv_at hl 6 rfl) ?_
                refine o_iadd hx hb dX1_read_130 ?_
                refine lv_aload_n hx hb dX1_read_131 rfl (lv_at hl 0 rfl) ?_
                refine o_get E hW in_X1 rfl 9 (by decide) (v := .ref (a 10)) rfl q192 rfl dX1_read_132 ?_
                refine o_bipush hx hb dX1_read_135 (by decide) ?_
                refine lv_iload hx hb dX1_read_137 (lv_at hl 4 rfl) ?_
                refine o_imul hx hb dX1_read_139 ?_
                refine lv_iload hx hb dX1_read_140 (lv_at hl 6 rfl) ?_
                refine o_iadd hx hb dX1_read_142 ?_
                refine o_iconst hx hb dX1_read_143 ?_
                refine o_iadd hx hb dX1_read_144 ?_
                refine o_ld E hW 10 ⟨by decide, rfl⟩ (by omega) (by omega) (by decide) (z := Y 10 (((6 * (X 4 (X 2 ((6 * pp) + dd)))) + i) + 1)) rfl dX1_read_145 ?_
                refine o_st E hW 10 ⟨by decide, rfl⟩ (by omega) (by omega) (by decide) dX1_read_146 (fun H locs hW => ?_)
                refine o_iinc (lv' := [(6, .int (iI (i + 1))), (0, .ref h), (1, .int (iI pp)), (2, .int (iI dd)), (3, .int (iI (X 2 ((6 * pp) + dd)))), (4, .int (iI (X 4 (X 2 ((6 * pp) + dd))))), (5, .int (iI (X 10 (6 * (X 4 (X 2 ((6 * pp) + dd)))))))]) hx hb dX1_read_147 hl (k := 6) rfl (by decide) rfl (fun ls hl => ?_)
                refine lv_goto (tgt := 107) hx hb dX1_read_150 (by decide) ?_
                exact ih (i + 1)  (su Y 10 ((6 * (X 4 (X 2 ((6 * pp) + dd)))) + i) (Y 10 (((6 * (X 4 (X 2 ((6 * pp) + dd)))) + i) + 1))) _ _ _ (by omega) ⟨by omega, by omega⟩ (msh_s hY (by omega)) hW (lv_sub hl [1, 2, 3, 4, 5, 6, 0] rfl)
          exact lp_107 7 0  (su X 9 (X 4 (X 2 ((6 * pp) + dd))) ((X 9 (X 4 (X 2 ((6 * pp) + dd)))) - 1)) _ _ _ (by omega) ⟨by omega, by omega⟩ msh_0 hW (lv_sub hl [4, 5, 6, 3, 2, 1, 0] rfl)
        · refine lv_aload_n hx hb dX1_read_63 rfl (lv_at hl 2 rfl) ?_
          refine o_iconst hx hb dX1_read_64 ?_
          refine lv_iload hx hb dX1_read_65 (lv_at hl 0 rfl) ?_
          refine o_call (nA := 2) (As := [.int (iI 2), .int (iI (X 4 (X 2 ((6 * pp) + dd))))]) (rest := []) E hW hl (mm_hasOpening l D cI cZ h a X 2 (X 4 (X 2 ((6 * pp) + dd))) (by omega) (by omega) hB2 hB3 hB4) (lw_V q237 q239 qs15 q22 q240) rfl (by decide +kernel) rfl ⟨Nat.le_of_ble_eq_true rfl, Nat.le_of_ble_eq_true rfl⟩ rfl (Nat.le_of_ble_eq_true rfl) ⟨Nat.le_of_ble_eq_true rfl, Nat.le_of_ble_eq_true rfl⟩ dX1_read_67 (fun z_67 X_67 H locs hq hW => ?_)
          rcases hq with ⟨q_67, rfl, rfl⟩ | ⟨q_67, rfl, rfl⟩
          · refine o_ifeq (tgt := 78) hx hb dX1_read_70 (by decide) (by omega) (fun q => absurd q (by decide)) (fun _ => ?_)
            refine o_bipush hx hb dX1_read_73 (by decide) ?_
            refine lv_goto (tgt := 80) hx hb dX1_read_75 (by decide) ?_
            exact o_ret (z := (-4)) E hW dX1_read_80 (Or.inr (Or.inl ⟨by omega, by omega, Or.inl ⟨by omega, q_67, rfl, rfl⟩⟩))
          · refine o_ifeq (tgt := 78) hx hb dX1_read_70 (by decide) (by omega) (fun _ => ?_) (fun q => absurd q (by decide))
            refine o_bipush hx hb dX1_read_78 (by decide) ?_
            exact o_ret (z := (-5)) E hW dX1_read_80 (Or.inr (Or.inl ⟨by omega, by omega, Or.inr (Or.inl ⟨by omega, q_67, rfl, rfl⟩)⟩))
    · refine o_iconst hx hb dX1_read_41 ?_
      exact o_ret (z := (-1)) E hW dX1_read_42 (Or.inl ⟨by omega, rfl, rfl⟩)
set_option maxHeartbeats 4000000 in
/-- seek -/
theorem mm_seek (l : Launch) (D : va_G) (cI cZ : ClassId) (h : Nat) (a : Nat → Nat) (X : oS) (pp : Int) (dd : Int) (ff : Int) (hp : ii_r pp) (hd : ii_r dd) (hB1 : rg X 1 4 0 1) (hB2 : rg X 2 24 (-1) 23) (hB3 : rg X 3 24 0 2) (hB4 : rg X 4 24 0 27) (hB5 : rg X 5 24 0 8) (hB7 : rg X 7 28 0 8) (hf : ii_r ff) : oC dM l yX1_seek cX1_seek 5 (some .int) 2 43 D cI cZ h a X [.int (iI pp), .int (iI dd), .int (iI ff)] (mq_seek X pp dd ff) := by
  refine oC_of (own := RX1) (by decide) rfl (Nat.le_of_ble_eq_true rfl) rfl ?_
  intro p e s m below meth c ls A E hW hl
  have hx := E.1
  have hb := E.2.1
  have hl : lv_has ls 5 [(0, .ref h), (1, .int (iI pp)), (2, .int (iI dd)), (3, .int (iI ff))] := hl
  refine lv_aload_n hx hb dX1_seek_0 rfl (lv_at hl 0 rfl) ?_
  refine lv_iload_n hx hb dX1_seek_1 rfl (lv_at hl 1 rfl) ?_
  refine lv_iload_n hx hb dX1_seek_2 rfl (lv_at hl 2 rfl) ?_
  refine o_call (nA := 2) (As := [.int (iI pp), .int (iI dd)]) (rest := []) E hW hl (mm_free l D cI cZ h a X pp dd hp hd hB1 hB2) (lw_V q261 q263 qs19 q22 q264) rfl (by decide +kernel) rfl ⟨Nat.le_of_ble_eq_true rfl, Nat.le_of_ble_eq_true rfl⟩ rfl (Nat.le_of_ble_eq_true rfl) ⟨Nat.le_of_ble_eq_true rfl, Nat.le_of_ble_eq_true rfl⟩ dX1_seek_3 (fun z_3 X_3 H locs hq hW => ?_)
  rcases hq with ⟨q_3, rfl, rfl⟩ | ⟨q_3, rfl, rfl⟩
  · refine o_ifeq (tgt := 11) hx hb dX1_seek_6 (by decide) (by omega) (fun q => absurd q (by decide)) (fun _ => ?_)
    refine o_iconst hx hb dX1_seek_9 ?_
    exact o_ret (z := (-1)) E hW dX1_seek_10 (Or.inl ⟨by omega, rfl, rfl⟩)
  · refine o_ifeq (tgt := 11) hx hb dX1_seek_6 (by decide) (by omega) (fun _ => ?_) (fun q => absurd q (by decide))
    refine lv_aload_n hx hb dX1_seek_11 rfl (lv_at hl 0 rfl) ?_
    refine o_get E hW in_X1 rfl 1 (by decide) (v := .ref (a 2)) rfl q184 rfl dX1_seek_12 ?_
    refine o_bipush hx hb dX1_seek_15 (by decide) ?_
    refine lv_iload_n hx hb dX1_seek_17 rfl (lv_at hl 1 rfl) ?_
    refine o_imul hx hb dX1_seek_18 ?_
    refine lv_iload_n hx hb dX1_seek_19 rfl (lv_at hl 2 rfl) ?_
    refine o_iadd hx hb dX1_seek_20 ?_
    have h_21 := hB2 ((6 * pp) + dd) (by omega) (by omega)
    refine o_ld E hW 2 ⟨by decide, rfl⟩ (by omega) (by omega) (by decide) (z := X 2 ((6 * pp) + dd)) rfl dX1_seek_21 ?_
    refine lv_istore (lv' := [(4, .int (iI (X 2 ((6 * pp) + dd)))), (0, .ref h), (1, .int (iI pp)), (2, .int (iI dd)), (3, .int (iI ff))]) hx hb dX1_seek_22 hl (by decide) rfl (fun ls hl => ?_)
    refine lv_aload_n hx hb dX1_seek_24 rfl (lv_at hl 1 rfl) ?_
    refine o_get E hW in_X1 rfl 2 (by decide) (v := .ref (a 3)) rfl q185 rfl dX1_seek_25 ?_
    refine lv_iload hx hb dX1_seek_28 (lv_at hl 0 rfl) ?_
    have h_30 := hB3 (X 2 ((6 * pp) + dd)) (by omega) (by omega)
    refine o_ld E hW 3 ⟨by decide, rfl⟩ (by omega) (by omega) (by decide) (z := X 3 (X 2 ((6 * pp) + dd))) rfl dX1_seek_30 ?_
    refine o_ifne (tgt := 54) hx hb dX1_seek_31 (by decide) (by omega) (fun c_31 => ?_) (fun c_31 => ?_)
    · refine o_iconst hx hb dX1_seek_54 ?_
      exact o_ret (z := (-1)) E hW dX1_seek_55 (Or.inl ⟨by omega, rfl, rfl⟩)
    · refine lv_iload_n hx hb dX1_seek_34 rfl (lv_at hl 4 rfl) ?_
      refine o_iflt (tgt := 54) hx hb dX1_seek_35 (by decide) (by omega) (fun c_35 => ?_) (fun c_35 => ?_)
      · refine o_iconst hx hb dX1_seek_54 ?_
        exact o_ret (z := (-1)) E hW dX1_seek_55 (Or.inl ⟨by omega, rfl, rfl⟩)
      · refine lv_iload_n hx hb dX1_seek_38 rfl (lv_at hl 4 rfl) ?_
        refine lv_aload_n hx hb dX1_seek_39 rfl (lv_at hl 1 rfl) ?_
        refine o_get E hW in_X1 rfl 6 (by decide) (v := .ref (a 7)) rfl q189 rfl dX1_seek_40 ?_
        refine lv_aload_n hx hb dX1_seek_43 rfl (lv_at hl 1 rfl) ?_
        refine o_get E hW in_X1 rfl 3 (by decide) (v := .ref (a 4)) rfl q186 rfl dX1_seek_44 ?_
        refine lv_iload hx hb dX1_seek_47 (lv_at hl 0 rfl) ?_
        have h_49 := hB4 (X 2 ((6 * pp) + dd)) (by omega) (by omega)
        refine o_ld E hW 4 ⟨by decide, rfl⟩ (by omega) (by omega) (by decide) (z := X 4 (X 2 ((6 * pp) + dd))) rfl dX1_seek_49 ?_
        have h_50 := hB7 (X 4 (X 2 ((6 * pp) + dd))) (by omega) (by omega)
        refine o_ld E hW 7 ⟨by decide, rfl⟩ (by omega) (by omega) (by decide) (z := X 7 (X 4 (X 2 ((6 * pp) + dd)))) rfl dX1_seek_50 ?_
        refine o_cle (tgt := 56) hx hb dX1_seek_51 (by decide) (by omega) (by omega) (fun c_51 => ?_) (fun c_51 => ?_)
        · refine lv_aload_n hx hb dX1_seek_56 rfl (lv_at hl 1 rfl) ?_
          refine o_get E hW in_X1 rfl 4 (by decide) (v := .ref (a 5)) rfl q187 rfl dX1_seek_57 ?_
          refine lv_iload hx hb dX1_seek_60 (lv_at hl 0 rfl) ?_
          refine lv_iload_n hx hb dX1_seek_62 rfl (lv_at hl 4 rfl) ?_
          refine o_st E hW 5 ⟨by decide, rfl⟩ (by omega) (by omega) (by decide) dX1_seek_63 (fun H locs hW => ?_)
          refine o_iconst hx hb dX1_seek_64 ?_
          exact o_ret (z := 0) E hW dX1_seek_65 (Or.inr ⟨by omega, rfl, rfl⟩)
        · refine o_iconst hx hb dX1_seek_54 ?_
          exact o_ret (z := (-1)) E hW dX1_seek_55 (Or.inl ⟨by omega, rfl, rfl⟩)
set_option maxHeartbeats 4000000 in
/-- link -/
theorem mm_link (l : Launch) (D : va_G) (cI cZ : ClassId) (h : Nat) (a : Nat → Nat) (X : oS) (n1 : Int) (n2 : Int) (hp : ii_r n1) (hd : ii_r n2) (hB6 : rg X 6 4 (-1) 27) : oC dM l yX1_link cX1_link 3 (some .int) 1 20 D cI cZ h a X [.int (iI n1), .int (iI n2)] (mq_link X n1 n2) := by
  refine oC_of (own := RX1) (by decide) rfl (Nat.le_of_ble_eq_true rfl) rfl ?_
  intro p e s m below meth c ls A E hW hl
  have hx := E.1
  have hb := E.2.1
  have hl : lv_has ls 3 [(0, .ref h), (1, .int (iI n1)), (2, .int (iI n2))] := hl
  refine lv_iload_n hx hb dX1_link_0 rfl (lv_at hl 1 rfl) ?_
  refine o_calls (nA := 1) (As := [.int (iI n1)]) (rest := []) E hW hl (mm_badName l n1 hp) (lw_S q222 q223 q22 q224) (by decide +kernel) rfl ⟨Nat.le_of_ble_eq_true rfl, Nat.le_of_ble_eq_true rfl⟩ rfl (Nat.le_of_ble_eq_true rfl) ⟨Nat.le_of_ble_eq_true rfl, Nat.le_of_ble_eq_true rfl⟩ dX1_link_1 (fun z_1 H locs hq hW => ?_)
  rcases hq with ⟨q_1, rfl⟩ | ⟨q_1, rfl⟩
  · refine o_ifne (tgt := 32) hx hb dX1_link_4 (by decide) (by omega) (fun _ => ?_) (fun q => absurd q (by decide))
    refine o_iconst hx hb dX1_link_32 ?_
    exact o_ret (z := (-1)) E hW dX1_link_33 (Or.inl ⟨by omega, rfl, rfl⟩)
  · refine o_ifne (tgt := 32) hx hb dX1_link_4 (by decide) (by omega) (fun q => absurd q (by decide)) (fun _ => ?_)
    refine lv_iload_n hx hb dX1_link_7 rfl (lv_at hl 2 rfl) ?_
    refine o_calls (nA := 1) (As := [.int (iI n2)]) (rest := []) E hW hl (mm_badName l n2 hd) (lw_S q222 q223 q22 q224) (by decide +kernel) rfl ⟨Nat.le_of_ble_eq_true rfl, Nat.le_of_ble_eq_true rfl⟩ rfl (Nat.le_of_ble_eq_true rfl) ⟨Nat.le_of_ble_eq_true rfl, Nat.le_of_ble_eq_true rfl⟩ dX1_link_8 (fun z_8 H locs hq hW => ?_)
    rcases hq with ⟨q_8, rfl⟩ | ⟨q_8, rfl⟩
    · refine o_ifne (tgt := 32) hx hb dX1_link_11 (by decide) (by omega) (fun _ => ?_) (fun q => absurd q (by decide))
      refine o_iconst hx hb dX1_link_32 ?_
      exact o_ret (z := (-1)) E hW dX1_link_33 (Or.inl ⟨by omega, rfl, rfl⟩)
    · refine o_ifne (tgt := 32) hx hb dX1_link_11 (by decide) (by omega) (fun q => absurd q (by decide)) (fun _ => ?_)
      refine lv_aload_n hx hb dX1_link_14 rfl (lv_at hl 0 rfl) ?_
      refine o_get E hW in_X1 rfl 5 (by decide) (v := .ref (a 6)) rfl q188 rfl dX1_link_15 ?_
      refine lv_iload_n hx hb dX1_link_18 rfl (lv_at hl 1 rfl) ?_
      have h_19 := hB6 n1 (by omega) (by omega)
      refine o_ld E hW 6 ⟨by decide, rfl⟩ (by omega) (by omega) (by decide) (z := X 6 n1) rfl dX1_link_19 ?_
      refine o_iflt (tgt := 32) hx hb dX1_link_20 (by decide) (by omega) (fun c_20 => ?_) (fun c_20 => ?_)
      · refine o_iconst hx hb dX1_link_32 ?_
        exact o_ret (z := (-1)) E hW dX1_link_33 (Or.inl ⟨by omega, rfl, rfl⟩)
      · refine lv_aload_n hx hb dX1_link_23 rfl (lv_at hl 0 rfl) ?_
        refine o_get E hW in_X1 rfl 5 (by decide) (v := .ref (a 6)) rfl q188 rfl dX1_link_24 ?_
        refine lv_iload_n hx hb dX1_link_27 rfl (lv_at hl 2 rfl) ?_
        have h_28 := hB6 n2 (by omega) (by omega)
        refine o_ld E hW 6 ⟨by decide, rfl⟩ (by omega) (by omega) (by decide) (z := X 6 n2) rfl dX1_link_28 ?_
        refine o_iflt (tgt := 34) hx hb dX1_link_29 (by decide) (by omega) (fun c_29 => ?_) (fun c_29 => ?_)
        · refine lv_aload_n hx hb dX1_link_34 rfl (lv_at hl 0 rfl) ?_
          refine o_get E hW in_X1 rfl 5 (by decide) (v := .ref (a 6)) rfl q188 rfl dX1_link_35 ?_
          refine lv_iload_n hx hb dX1_link_38 rfl (lv_at hl 2 rfl) ?_
          refine lv_aload_n hx hb dX1_link_39 rfl (lv_at hl 0 rfl) ?_
          refine o_get E hW in_X1 rfl 5 (by decide) (v := .ref (a 6)) rfl q188 rfl dX1_link_40 ?_
          refine lv_iload_n hx hb dX1_link_43 rfl (lv_at hl 1 rfl) ?_
          have h_44 := hB6 n1 (by omega) (by omega)
          refine o_ld E hW 6 ⟨by decide, rfl⟩ (by omega) (by omega) (by decide) (z := X 6 n1) rfl dX1_link_44 ?_
          refine o_st E hW 6 ⟨by decide, rfl⟩ (by omega) (by omega) (by decide) dX1_link_45 (fun H locs hW => ?_)
          refine o_iconst hx hb dX1_link_46 ?_
          exact o_ret (z := 0) E hW dX1_link_47 (Or.inr ⟨by omega, rfl, rfl⟩)
        · refine o_iconst hx hb dX1_link_32 ?_
          exact o_ret (z := (-1)) E hW dX1_link_33 (Or.inl ⟨by omega, rfl, rfl⟩)
set_option maxHeartbeats 4000000 in
/-- unlink -/
theorem mm_unlink (l : Launch) (D : va_G) (cI cZ : ClassId) (h : Nat) (a : Nat → Nat) (X : oS) (nn : Int) (hp : ii_r nn) (hB6 : rg X 6 4 (-1) 27) : oC dM l yX1_unlink cX1_unlink 2 (some .int) 1 20 D cI cZ h a X [.int (iI nn)] (mq_unlink X nn) := by
  refine oC_of (own := RX1) (by decide) rfl (Nat.le_of_ble_eq_true rfl) rfl ?_
  intro p e s m below meth c ls A E hW hl
  have hx := E.1
  have hb := E.2.1
  have hl : lv_has ls 2 [(0, .ref h), (1, .int (iI nn))] := hl
  refine lv_iload_n hx hb dX1_unlink_0 rfl (lv_at hl 1 rfl) ?_
  refine o_calls (nA := 1) (As := [.int (iI nn)]) (rest := []) E hW hl (mm_badName l nn hp) (lw_S q222 q223 q22 q224) (by decide +kernel) rfl ⟨Nat.le_of_ble_eq_true rfl, Nat.le_of_ble_eq_true rfl⟩ rfl (Nat.le_of_ble_eq_true rfl) ⟨Nat.le_of_ble_eq_true rfl, Nat.le_of_ble_eq_true rfl⟩ dX1_unlink_1 (fun z_1 H locs hq hW => ?_)
  rcases hq with ⟨q_1, rfl⟩ | ⟨q_1, rfl⟩
  · refine o_ifne (tgt := 16) hx hb dX1_unlink_4 (by decide) (by omega) (fun _ => ?_) (fun q => absurd q (by decide))
    refine o_iconst hx hb dX1_unlink_16 ?_
    exact o_ret (z := (-1)) E hW dX1_unlink_17 (Or.inl ⟨by omega, rfl, rfl⟩)
  · refine o_ifne (tgt := 16) hx hb dX1_unlink_4 (by decide) (by omega) (fun q => absurd q (by decide)) (fun _ => ?_)
    refine lv_aload_n hx hb dX1_unlink_7 rfl (lv_at hl 0 rfl) ?_
    refine o_get E hW in_X1 rfl 5 (by decide) (v := .ref (a 6)) rfl q188 rfl dX1_unlink_8 ?_
    refine lv_iload_n hx hb dX1_unlink_11 rfl (lv_at hl 1 rfl) ?_
    have h_12 := hB6 nn (by omega) (by omega)
    refine o_ld E hW 6 ⟨by decide, rfl⟩ (by omega) (by omega) (by decide) (z := X 6 nn) rfl dX1_unlink_12 ?_
    refine o_ifge (tgt := 18) hx hb dX1_unlink_13 (by decide) (by omega) (fun c_13 => ?_) (fun c_13 => ?_)
    · refine lv_aload_n hx hb dX1_unlink_18 rfl (lv_at hl 0 rfl) ?_
      refine o_get E hW in_X1 rfl 5 (by decide) (v := .ref (a 6)) rfl q188 rfl dX1_unlink_19 ?_
      refine lv_iload_n hx hb dX1_unlink_22 rfl (lv_at hl 1 rfl) ?_
      refine o_iconst hx hb dX1_unlink_23 ?_
      refine o_st E hW 6 ⟨by decide, rfl⟩ (by omega) (by omega) (by decide) dX1_unlink_24 (fun H locs hW => ?_)
      refine o_iconst hx hb dX1_unlink_25 ?_
      exact o_ret (z := 0) E hW dX1_unlink_26 (Or.inr ⟨by omega, rfl, rfl⟩)
    · refine o_iconst hx hb dX1_unlink_16 ?_
      exact o_ret (z := (-1)) E hW dX1_unlink_17 (Or.inl ⟨by omega, rfl, rfl⟩)
set_option maxHeartbeats 4000000 in
/-- counts -/
theorem mm_counts (l : Launch) (D : va_G) (cI cZ : ClassId) (h : Nat) (a : Nat → Nat) (X : oS)  (hB2 : rg X 2 24 (-1) 23) (hB3 : rg X 3 24 0 2) (hB4 : rg X 4 24 0 27) (hB6 : rg X 6 4 (-1) 27) : oC dM l yX1_counts cX1_counts 5 (some .int) 3 68 D cI cZ h a X [] (mq_counts X) := by
  refine oC_of (own := RX1) (by decide) rfl (Nat.le_of_ble_eq_true rfl) rfl ?_
  intro p e s m below meth c ls A E hW hl
  have hx := E.1
  have hb := E.2.1
  have hl : lv_has ls 5 [(0, .ref h)] := hl
  refine o_iconst hx hb dX1_counts_0 ?_
  refine lv_istore_n (lv' := [(1, .int (iI 0)), (0, .ref h)]) hx hb dX1_counts_1 rfl hl (by decide) rfl (fun ls hl => ?_)
  refine o_iconst hx hb dX1_counts_2 ?_
  refine lv_istore_n (lv' := [(2, .int (iI 0)), (1, .int (iI 0)), (0, .ref h)]) hx hb dX1_counts_3 rfl hl (by decide) rfl (fun ls hl => ?_)
  refine o_iconst hx hb dX1_counts_4 ?_
  refine lv_istore_n (lv' := [(3, .int (iI 0)), (2, .int (iI 0)), (1, .int (iI 0)), (0, .ref h)]) hx hb dX1_counts_5 rfl hl (by decide) rfl (fun ls hl => ?_)
  refine o_iconst hx hb dX1_counts_6 ?_
  refine lv_istore (lv' := [(4, .int (iI 0)), (3, .int (iI 0)), (2, .int (iI 0)), (1, .int (iI 0)), (0, .ref h)]) hx hb dX1_counts_7 hl (by decide) rfl (fun ls hl => ?_)
  have lp_9 : ∀ (n : Nat) (n1 : Int) (n3 : Int) (i : Int)  (H : Heap) (locs : List Loc) (ls : Array Slot), 24 - i < (n : Int) → (0 ≤ i ∧ i ≤ 24) → (n1 = cp (opd X) i.toNat) → (n3 = cp (hop X 3) i.toNat) → mW dM D cI cZ h a A s X H locs → lv_has ls 5 [(0, .ref h), (1, .int (iI n1)), (2, .int (iI 0)), (3, .int (iI n3)), (4, .int (iI i))] → W p l e ({ frames := 3, cells := 0, slots := 0, locals := 68 }) s m (Value.ref h :: []).toArray below meth c H locs 0 0 (MQ below (oQc dM D cI cZ h a A (mq_counts X)) (Value.ref h :: []).toArray s 0 0 A) (F0 m 9 ls []) := by
    intro n
    induction n with
    | zero =>
      intro n1 n3 i H locs ls hn hi hI hJ hW hl
      exfalso
      omega
    | succ n ih =>
      intro n1 n3 i H locs ls hn hi hI hJ hW hl
      refine lv_iload hx hb dX1_counts_9 (lv_at hl 4 rfl) ?_
      refine o_bipush hx hb dX1_counts_11 (by decide) ?_
      refine o_cge (tgt := 47) hx hb dX1_counts_13 (by decide) (by omega) (by omega) (fun c_13 => ?_) (fun c_13 => ?_)
      · have hn1 : n1 = cp (opd X) 24 := by rw [hI, show i = 24 by omega]; rfl
        have hn3 : n3 = cp (hop X 3) 24 := by rw [hJ, show i = 24 by omega]; rfl
        refine o_iconst hx hb dX1_counts_47 ?_
        refine lv_istore (lv' := [(4, .int (iI 0)), (0, .ref h), (1, .int (iI n1)), (2, .int (iI 0)), (3, .int (iI n3))]) hx hb dX1_counts_48 hl (by decide) rfl (fun ls hl => ?_)
        have lp_50 : ∀ (n : Nat) (n2 : Int) (i : Int)  (H : Heap) (locs : List Loc) (ls : Array Slot), 28 - i < (n : Int) → (0 ≤ i ∧ i ≤ 28) → (n2 = cp (isf X) i.toNat) → mW dM D cI cZ h a A s X H locs → lv_has ls 5 [(0, .ref h), (1, .int (iI n1)), (2, .int (iI n2)), (3, .int (iI n3)), (4, .int (iI i))] → W p l e ({ frames := 3, cells := 0, slots := 0, locals := 68 }) s m (Value.ref h :: []).toArray below meth c H locs 0 0 (MQ below (oQc dM D cI cZ h a A (mq_counts X)) (Value.ref h :: []).toArray s 0 0 A) (F0 m 50 ls []) := by
          intro n
          induction n with
          | zero =>
            intro n2 i H locs ls hn hi hI hW hl
            exfalso
            omega
          | succ n ih =>
            intro n2 i H locs ls hn hi hI hW hl
            refine lv_iload hx hb dX1_counts_50 (lv_at hl 4 rfl) ?_
            refine o_bipush hx hb dX1_counts_52 (by decide) ?_
            refine o_cge (tgt := 75) hx hb dX1_counts_54 (by decide) (by omega) (by omega) (fun c_54 => ?_) (fun c_54 => ?_)
            · have hn2 : n2 = cp (isf X) 28 := by rw [hI, show i = 28 by omega]; rfl
              refine o_bipush hx hb dX1_counts_75 (by decide) ?_
              refine lv_iload_n hx hb dX1_counts_77 rfl (lv_at hl 1 rfl) ?_
              refine o_imul hx hb dX1_counts_78 ?_
              refine o_bipush hx hb dX1_counts_79 (by decide) ?_
              refine lv_iload_n hx hb dX1_counts_81 rfl (lv_at hl 2 rfl) ?_
              refine o_imul hx hb dX1_counts_82 ?_
              refine o_iadd hx hb dX1_counts_83 ?_
              refine lv_iload_n hx hb dX1_counts_84 rfl (lv_at hl 3 rfl) ?_
              refine o_iadd hx hb dX1_counts_85 ?_
              exact o_ret (z := (((100 * n1) + (10 * n2)) + n3)) E hW dX1_counts_86 (⟨by rw [hn1, hn2, hn3], rfl⟩)
            · refine lv_aload_n hx hb dX1_counts_57 rfl (lv_at hl 0 rfl) ?_
              refine lv_iload hx hb dX1_counts_58 (lv_at hl 4 rfl) ?_
              refine o_call (nA := 1) (As := [.int (iI i)]) (rest := []) E hW hl (mm_isFile l D cI cZ h a X i (by omega) hB2 hB3 hB4 hB6) (lw_V q233 q235 qs14 q22 q236) rfl (by decide +kernel) rfl ⟨Nat.le_of_ble_eq_true rfl, Nat.le_of_ble_eq_true rfl⟩ rfl (Nat.le_of_ble_eq_true rfl) ⟨Nat.le_of_ble_eq_true rfl, Nat.le_of_ble_eq_true rfl⟩ dX1_counts_60 (fun z_60 X_60 H locs hq hW => ?_)
              rcases hq with ⟨q_60, rfl, rfl⟩ | ⟨q_60, rfl, rfl⟩
              · refine o_ifeq (tgt := 69) hx hb dX1_counts_63 (by decide) (by omega) (fun q => absurd q (by decide)) (fun _ => ?_)
                refine o_iinc (lv' := [(2, .int (iI (n2 + 1))), (0, .ref h), (1, .int (iI n1)), (3, .int (iI n3)), (4, .int (iI i))]) hx hb dX1_counts_66 hl (k := 2) rfl (by decide) rfl (fun ls hl => ?_)
                refine o_iinc (lv' := [(4, .int (iI (i + 1))), (2, .int (iI (n2 + 1))), (0, .ref h), (1, .int (iI n1)), (3, .int (iI n3))]) hx hb dX1_counts_69 hl (k := 4) rfl (by decide) rfl (fun ls hl => ?_)
                refine lv_goto (tgt := 50) hx hb dX1_counts_72 (by decide) ?_
                exact ih (n2 + 1) (i + 1)  _ _ _ (by omega) ⟨by omega, by omega⟩ (cp_y (by omega) hI q_60) hW (lv_sub hl [2, 3, 1, 4, 0] rfl)
              · refine o_ifeq (tgt := 69) hx hb dX1_counts_63 (by decide) (by omega) (fun _ => ?_) (fun q => absurd q (by decide))
                refine o_iinc (lv' := [(4, .int (iI (i + 1))), (0, .ref h), (1, .int (iI n1)), (2, .int (iI n2)), (3, .int (iI n3))]) hx hb dX1_counts_69 hl (k := 4) rfl (by decide) rfl (fun ls hl => ?_)
                refine lv_goto (tgt := 50) hx hb dX1_counts_72 (by decide) ?_
                exact ih n2 (i + 1)  _ _ _ (by omega) ⟨by omega, by omega⟩ (cp_n (by omega) hI q_60) hW (lv_sub hl [1, 2, 3, 4, 0] rfl)
        exact lp_50 29 0 0  _ _ _ (by omega) ⟨by omega, by omega⟩ rfl hW (lv_sub hl [1, 2, 3, 4, 0] rfl)
      · refine lv_aload_n hx hb dX1_counts_16 rfl (lv_at hl 0 rfl) ?_
        refine lv_iload hx hb dX1_counts_17 (lv_at hl 4 rfl) ?_
        refine o_call (nA := 1) (As := [.int (iI i)]) (rest := []) E hW hl (mm_opened l D cI cZ h a X i (by omega) hB2) (lw_V q241 q243 qs16 q22 q244) rfl (by decide +kernel) rfl ⟨Nat.le_of_ble_eq_true rfl, Nat.le_of_ble_eq_true rfl⟩ rfl (Nat.le_of_ble_eq_true rfl) ⟨Nat.le_of_ble_eq_true rfl, Nat.le_of_ble_eq_true rfl⟩ dX1_counts_19 (fun z_19 X_19 H locs hq hW => ?_)
        rcases hq with ⟨q_19, rfl, rfl⟩ | ⟨q_19, rfl, rfl⟩
        · refine o_ifeq (tgt := 28) hx hb dX1_counts_22 (by decide) (by omega) (fun q => absurd q (by decide)) (fun _ => ?_)
          refine o_iinc (lv' := [(1, .int (iI (n1 + 1))), (0, .ref h), (2, .int (iI 0)), (3, .int (iI n3)), (4, .int (iI i))]) hx hb dX1_counts_25 hl (k := 1) rfl (by decide) rfl (fun ls hl => ?_)
          refine lv_aload_n hx hb dX1_counts_28 rfl (lv_at hl 1 rfl) ?_
          refine o_iconst hx hb dX1_counts_29 ?_
          refine lv_iload hx hb dX1_counts_30 (lv_at hl 4 rfl) ?_
          refine o_call (nA := 2) (As := [.int (iI 3), .int (iI i)]) (rest := []) E hW hl (mm_hasOpening l D cI cZ h a X 3 i (by omega) (by omega) hB2 hB3 hB4) (lw_V q237 q239 qs15 q22 q240) rfl (by decide +kernel) rfl ⟨Nat.le_of_ble_eq_true rfl, Nat.le_of_ble_eq_true rfl⟩ rfl (Nat.le_of_ble_eq_true rfl) ⟨Nat.le_of_ble_eq_true rfl, Nat.le_of_ble_eq_true rfl⟩ dX1_counts_32 (fun z_32 X_32 H locs hq hW => ?_)
          rcases hq with ⟨q_32, rfl, rfl⟩ | ⟨q_32, rfl, rfl⟩
          · refine o_ifeq (tgt := 41) hx hb dX1_counts_35 (by decide) (by omega) (fun q => absurd q (by decide)) (fun _ => ?_)
            refine o_iinc (lv' := [(3, .int (iI (n3 + 1))), (1, .int (iI (n1 + 1))), (0, .ref h), (2, .int (iI 0)), (4, .int (iI i))]) hx hb dX1_counts_38 hl (k := 3) rfl (by decide) rfl (fun ls hl => ?_)
            refine o_iinc (lv' := [(4, .int (iI (i + 1))), (3, .int (iI (n3 + 1))), (1, .int (iI (n1 + 1))), (0, .ref h), (2, .int (iI 0))]) hx hb dX1_counts_41 hl (k := 4) rfl (by decide) rfl (fun ls hl => ?_)
            refine lv_goto (tgt := 9) hx hb dX1_counts_44 (by decide) ?_
            exact ih (n1 + 1) (n3 + 1) (i + 1)  _ _ _ (by omega) ⟨by omega, by omega⟩ (cp_y (by omega) hI q_19) (cp_y (by omega) hJ q_32) hW (lv_sub hl [3, 2, 4, 1, 0] rfl)
          · refine o_ifeq (tgt := 41) hx hb dX1_counts_35 (by decide) (by omega) (fun _ => ?_) (fun q => absurd q (by decide))
            refine o_iinc (lv' := [(4, .int (iI (i + 1))), (1, .int (iI (n1 + 1))), (0, .ref h), (2, .int (iI 0)), (3, .int (iI n3))]) hx hb dX1_counts_41 hl (k := 4) rfl (by decide) rfl (fun ls hl => ?_)
            refine lv_goto (tgt := 9) hx hb dX1_counts_44 (by decide) ?_
            exact ih (n1 + 1) n3 (i + 1)  _ _ _ (by omega) ⟨by omega, by omega⟩ (cp_y (by omega) hI q_19) (cp_n (by omega) hJ q_32) hW (lv_sub hl [2, 1, 3, 4, 0] rfl)
        · refine o_ifeq (tgt := 28) hx hb dX1_counts_22 (by decide) (by omega) (fun _ => ?_) (fun q => absurd q (by decide))
          refine lv_aload_n hx hb dX1_counts_28 rfl (lv_at hl 0 rfl) ?_
          refine o_iconst hx hb dX1_counts_29 ?_
          refine lv_iload hx hb dX1_counts_30 (lv_at hl 4 rfl) ?_
          refine o_call (nA := 2) (As := [.int (iI 3), .int (iI i)]) (rest := []) E hW hl (mm_hasOpening l D cI cZ h a X 3 i (by omega) (by omega) hB2 hB3 hB4) (lw_V q237 q239 qs15 q22 q240) rfl (by decide +kernel) rfl ⟨Nat.le_of_ble_eq_true rfl, Nat.le_of_ble_eq_true rfl⟩ rfl (Nat.le_of_ble_eq_true rfl) ⟨Nat.le_of_ble_eq_true rfl, Nat.le_of_ble_eq_true rfl⟩ dX1_counts_32 (fun z_32 X_32 H locs hq hW => ?_)
          rcases hq with ⟨q_32, rfl, rfl⟩ | ⟨q_32, rfl, rfl⟩
          · refine o_ifeq (tgt := 41) hx hb dX1_counts_35 (by decide) (by omega) (fun q => absurd q (by decide)) (fun _ => ?_)
            refine o_iinc (lv' := [(3, .int (iI (n3 + 1))), (0, .ref h), (1, .int (iI n1)), (2, .int (iI 0)), (4, .int (iI i))]) hx hb dX1_counts_38 hl (k := 3) rfl (by decide) rfl (fun ls hl => ?_)
            refine o_iinc (lv' := [(4, .int (iI (i + 1))), (3, .int (iI (n3 + 1))), (0, .ref h), (1, .int (iI n1)), (2, .int (iI 0))]) hx hb dX1_counts_41 hl (k := 4) rfl (by decide) rfl (fun ls hl => ?_)
            refine lv_goto (tgt := 9) hx hb dX1_counts_44 (by decide) ?_
            exact ih n1 (n3 + 1) (i + 1)  _ _ _ (by omega) ⟨by omega, by omega⟩ (cp_n (by omega) hI q_19) (cp_y (by omega) hJ q_32) hW (lv_sub hl [2, 3, 4, 1, 0] rfl)
          · refine o_ifeq (tgt := 41) hx hb dX1_counts_35 (by decide) (by omega) (fun _ => ?_) (fun q => absurd q (by decide))
            refine o_iinc (lv' := [(4, .int (iI (i + 1))), (0, .ref h), (1, .int (iI n1)), (2, .int (iI 0)), (3, .int (iI n3))]) hx hb dX1_counts_41 hl (k := 4) rfl (by decide) rfl (fun ls hl => ?_)
            refine lv_goto (tgt := 9) hx hb dX1_counts_44 (by decide) ?_
            exact ih n1 n3 (i + 1)  _ _ _ (by omega) ⟨by omega, by omega⟩ (cp_n (by omega) hI q_19) (cp_n (by omega) hJ q_32) hW (lv_sub hl [1, 2, 3, 4, 0] rfl)
  exact lp_9 25 0 0 0  _ _ _ (by omega) ⟨by omega, by omega⟩ rfl rfl hW (lv_sub hl [4, 3, 2, 1, 0] rfl)
end
section
/-! plain: counting, and that n things fit no smaller place -/
theorem cp_congr {P Q : Int → Prop} : ∀ n : Nat, (∀ i : Int, 0 ≤ i → i < n → (P i ↔ Q i)) → cp P n = cp Q n
  | 0, _ => rfl
  | n + 1, h => by
    have ih := cp_congr (P := P) (Q := Q) n (fun i h1 h2 => h i h1 (by omega))
    have hn := h n (by omega) (by omega)
    by_cases g : P (n : Int)
    · rw [cp_sy g, cp_sy (hn.mp g), ih]
    · rw [cp_sn g, cp_sn (fun q => g (hn.mpr q)), ih]
theorem cp_add {P Q : Int → Prop} {i : Int} : ∀ n : Nat, 0 ≤ i → i < n → (∀ j : Int, 0 ≤ j → j < n → j ≠ i → (P j ↔ Q j)) → ¬ P i → Q i → cp Q n = cp P n + 1
  | 0, h0, h1, _, _, _ => by omega
  | n + 1, h0, h1, h, hp, hq => by
    by_cases g : i = (n : Int)
    · subst g
      rw [cp_sy hq, cp_sn hp, cp_congr n (fun j g1 g2 => h j g1 (by omega) (by omega))]
    · have ih := cp_add (P := P) (Q := Q) (i := i) n h0 (by omega) (fun j g1 g2 => h j g1 (by omega)) hp hq
      have hn := h n (by omega) (by omega) (fun e => g e.symm)
      by_cases k : P (n : Int)
      · rw [cp_sy k, cp_sy (hn.mp k), ih]
      · rw [cp_sn k, cp_sn (fun q => k (hn.mpr q)), ih]
theorem cp_0 {P : Int → Prop} : ∀ n : Nat, (∀ i : Int, 0 ≤ i → i < n → ¬ P i) → cp P n = 0
  | 0, _ => rfl
  | n + 1, h => by rw [cp_sn (h n (by omega) (by omega)), cp_0 n (fun i h1 h2 => h i h1 (by omega))]
theorem cp_gt {P : Int → Prop} {n : Nat} {i : Int} (h0 : 0 ≤ i) (h1 : i < n) (h : P i) : 0 < cp P n := by
  rw [cp_add (P := fun j => P j ∧ j ≠ i) (Q := P) n h0 h1 (fun j _ _ g => ⟨fun q => q.1, fun q => ⟨q, g⟩⟩) (fun q => q.2 rfl) h]
  have := cp_r (fun j => P j ∧ j ≠ i) n
  omega
theorem cp_ex {P : Int → Prop} {n : Nat} (h : 0 < cp P n) : ∃ i : Int, 0 ≤ i ∧ i < n ∧ P i := by
  apply Classical.byContradiction
  intro g
  rw [cp_0 n (fun i h1 h2 h3 => g ⟨i, h1, h2, h3⟩)] at h
  omega
theorem cp_ge2 {P : Int → Prop} {n : Nat} {i j : Int} (h0 : 0 ≤ i) (h1 : i < n) (h : P i) (g0 : 0 ≤ j) (g1 : j < n) (g : P j) (hij : i ≠ j) : 2 ≤ cp P n := by
  rw [cp_add (P := fun j => P j ∧ j ≠ i) (Q := P) n h0 h1 (fun j _ _ g => ⟨fun q => q.1, fun q => ⟨q, g⟩⟩) (fun q => q.2 rfl) h]
  have := cp_gt (P := fun j => P j ∧ j ≠ i) g0 g1 ⟨g, fun e => hij e.symm⟩
  omega
theorem cp_le1 {P : Int → Prop} {n : Nat} {r : Int} (h : ∀ i : Int, 0 ≤ i → i < n → P i → i = r) : cp P n ≤ 1 := by
  by_cases g : 0 ≤ r ∧ r < n ∧ P r
  · rw [cp_add (P := fun j => P j ∧ j ≠ r) (Q := P) n g.1 g.2.1 (fun j _ _ g => ⟨fun q => q.1, fun q => ⟨q, g⟩⟩) (fun q => q.2 rfl) g.2.2, cp_0 n (fun i h1 h2 h3 => h3.2 (h i h1 h2 h3.1))]
    omega
  · rw [cp_0 n (fun i h1 h2 h3 => by have e := h i h1 h2 h3; subst e; exact g ⟨h1, h2, h3⟩)]
    omega
theorem cp_two {P : Int → Prop} {n : Nat} (h : 2 ≤ cp P n) (r : Int) : ∃ i : Int, 0 ≤ i ∧ i < n ∧ P i ∧ i ≠ r := by
  apply Classical.byContradiction
  intro g
  have := cp_le1 (P := P) (n := n) (r := r) (fun i h1 h2 h3 => Classical.byContradiction fun q => g ⟨i, h1, h2, h3, q⟩)
  omega
theorem ph_inj : ∀ (m n : Nat) (g : Nat → Nat), (∀ x, x < n → g x < m) → (∀ x y, x < n → y < n → g x = g y → x = y) → n ≤ m
  | 0, n, g, h, _ => by
    cases n with
    | zero => omega
    | succ k => have := h 0 (by omega); omega
  | m + 1, 0, g, h, _ => by omega
  | m + 1, n + 1, g, h, hi => by
    have := ph_inj m n (fun x => if g x = m then g n else g x) (fun x hx => by
      have h1 := h x (by omega)
      have h2 := h n (by omega)
      show (if g x = m then g n else g x) < m
      by_cases q : g x = m
      · rw [if_pos q]
        have : g n ≠ m := fun e => by have := hi x n (by omega) (by omega) (by omega); omega
        omega
      · rw [if_neg q]; omega) (fun x y hx hy e => by
      have e : (if g x = m then g n else g x) = (if g y = m then g n else g y) := e
      by_cases q1 : g x = m <;> by_cases q2 : g y = m
      · exact hi x y (by omega) (by omega) (by omega)
      · rw [if_pos q1, if_neg q2] at e
        have := hi n y (by omega) (by omega) e
        omega
      · rw [if_neg q1, if_pos q2] at e
        have := hi x n (by omega) (by omega) e
        omega
      · rw [if_neg q1, if_neg q2] at e
        exact hi x y (by omega) (by omega) e)
    omega
/-- every one of 0 .. n-1 is the value of one of m places, and a further place has none of them: then n < m -/
theorem ph_sur {n m : Nat} {V : Int → Int → Prop} {i0 : Int} (h0 : 0 ≤ i0) (h1 : i0 < m) (h : ∀ o : Int, 0 ≤ o → o < n → ∃ i : Int, 0 ≤ i ∧ i < m ∧ V i o) (hf : ∀ i o o' : Int, V i o → V i o' → o = o') (hn : ∀ o : Int, 0 ≤ o → o < n → ¬ V i0 o) : n < m := by
  have hc : ∀ o : Nat, ∃ i : Nat, o < n → i < m ∧ V i o := fun o => by
    by_cases q : o < n
    · obtain ⟨i, g0, g1, g2⟩ := h o (by omega) (by omega)
      exact ⟨i.toNat, fun _ => ⟨by omega, by rw [Int.toNat_of_nonneg g0]; exact g2⟩⟩
    · exact ⟨0, fun z => absurd z q⟩
  have hs := fun o => Classical.choose_spec (hc o)
  have := ph_inj m (n + 1) (fun o => if o = n then i0.toNat else Classical.choose (hc o)) (fun o ho => by
      show (if o = n then i0.toNat else Classical.choose (hc o)) < m
      by_cases q : o = n
      · rw [if_pos q]; omega
      · rw [if_neg q]; exact (hs o (by omega)).1) (fun x y hx hy e => by
      have e : (if x = n then i0.toNat else Classical.choose (hc x)) = (if y = n then i0.toNat else Classical.choose (hc y)) := e
      by_cases q1 : x = n <;> by_cases q2 : y = n
      · omega
      · rw [if_pos q1, if_neg q2] at e
        have := (hs y (by omega)).2
        rw [← e, Int.toNat_of_nonneg h0] at this
        exact absurd this (hn y (by omega) (by omega))
      · rw [if_neg q1, if_pos q2] at e
        have := (hs x (by omega)).2
        rw [e, Int.toNat_of_nonneg h0] at this
        exact absurd this (hn x (by omega) (by omega))
      · rw [if_neg q1, if_neg q2] at e
        have a1 := (hs x (by omega)).2
        have a2 := (hs y (by omega)).2
        rw [← e] at a2
        have := hf _ _ _ a1 a2
        omega)
  omega
end
section
/-! plain: what holds of the model's state between two calls, and how the two states are tied -/
def rd (S : oS) (s q : Int) : Prop := ∃ o : Int, 0 ≤ o ∧ o < 24 ∧ S 3 o = s ∧ S 4 o = q ∧ opd S o
def Inv (S : oS) : Prop :=
  rg S 1 4 0 1 ∧ rg S 2 24 (-1) 23 ∧ rg S 3 24 0 2 ∧ rg S 4 24 0 27 ∧ (∀ i : Int, 0 ≤ i → i < 24 → S 3 i ≠ 0 → S 4 i ≤ 23) ∧ rg S 5 24 0 8 ∧ rg S 6 4 (-1) 27 ∧ rg S 7 28 0 8 ∧ rg S 9 24 0 6 ∧
  (∀ p d : Int, 0 ≤ p → p ≤ 3 → S 1 p = 0 → 0 ≤ d → d < 6 → S 2 (6 * p + d) = -1) ∧
  (∀ o : Int, 0 ≤ o → o < 24 → opd S o → S 3 o = 0 → S 5 o ≤ S 7 (S 4 o)) ∧
  (∀ o q : Int, 0 ≤ o → o < 24 → 0 ≤ q → q < 24 → opd S o → opd S q → S 3 o = S 3 q → S 3 o ≠ 0 → S 4 o = S 4 q → o = q)
/-- the places of a file that openings hold -/
noncomputable abbrev fo (S : oS) (f : Int) : Int := cp (fun o => opd S o ∧ S 3 o = 0 ∧ S 4 o = f) 24
def RX (S X : oS) : Prop :=
  X 0 0 = cp (fun j => S 1 j ≠ 0) 4 ∧ (∀ i : Int, 0 ≤ i → i < 4 → X 1 i = S 1 i) ∧ (∀ i : Int, 0 ≤ i → i < 24 → X 2 i = S 2 i) ∧ (∀ o : Int, 0 ≤ o → o < 24 → X 3 o = cp (fun i => S 2 i = o) 24) ∧
  (∀ o : Int, 0 ≤ o → o < 24 → X 4 o = S 3 o + 1 ∨ (X 4 o = 0 ∧ ¬ opd S o ∧ S 4 o ≤ 23)) ∧ (∀ o : Int, 0 ≤ o → o < 24 → X 5 o = S 4 o) ∧ (∀ o : Int, 0 ≤ o → o < 24 → X 6 o = S 5 o) ∧
  (∀ n : Int, 0 ≤ n → n < 4 → X 7 n = S 6 n) ∧ (∀ f : Int, 0 ≤ f → f < 28 → X 8 f = cp (fun n => S 6 n = f) 4 + fo S f) ∧ (∀ f : Int, 0 ≤ f → f < 28 → X 9 f = S 7 f) ∧ (∀ i : Int, 0 ≤ i → i < 224 → X 10 i = S 8 i) ∧
  (∀ q : Int, 0 ≤ q → q < 24 → (X 11 q = 1 ∧ rd S 1 q) ∨ (X 11 q = 0 ∧ ¬ rd S 1 q)) ∧ (∀ q : Int, 0 ≤ q → q < 24 → (X 12 q = 1 ∧ rd S 2 q) ∨ (X 12 q = 0 ∧ ¬ rd S 2 q)) ∧
  rg X 13 24 0 5 ∧ (∀ q : Int, 0 ≤ q → q < 24 → X 14 q = S 9 q) ∧
  (∀ q j : Int, 0 ≤ q → q < 24 → 0 ≤ j → j < S 9 q → (X 13 q + j < 6 → X 15 (6 * q + (X 13 q + j)) = S 10 (6 * q + j)) ∧ (6 ≤ X 13 q + j → X 15 (6 * q + (X 13 q + j - 6)) = S 10 (6 * q + j)))
abbrev Rel (S X : oS) : Prop := Inv S ∧ RX S X
theorem hop_rd {S : oS} {s q : Int} (h : s ≠ 3) : hop S s q ↔ rd S s q := by
  constructor
  · rintro ⟨o, h0, h1, h2, h3, h4⟩
    exact ⟨o, h0, h1, by omega, h3, h4⟩
  · rintro ⟨o, h0, h1, h2, h3, h4⟩
    exact ⟨o, h0, h1, Or.inr ⟨h, h2⟩, h3, h4⟩
theorem hop_3 {S : oS} {q : Int} (i3 : rg S 3 24 0 2) : hop S 3 q ↔ rd S 1 q ∨ rd S 2 q := by
  constructor
  · rintro ⟨o, h0, h1, h2, h3, h4⟩
    have := i3 o h0 h1
    by_cases g : S 3 o = 1
    · exact Or.inl ⟨o, h0, h1, g, h3, h4⟩
    · exact Or.inr ⟨o, h0, h1, by omega, h3, h4⟩
  · rintro (⟨o, h0, h1, h2, h3, h4⟩ | ⟨o, h0, h1, h2, h3, h4⟩)
    · exact ⟨o, h0, h1, Or.inl ⟨rfl, by omega⟩, h3, h4⟩
    · exact ⟨o, h0, h1, Or.inl ⟨rfl, by omega⟩, h3, h4⟩
theorem isf_iff {S : oS} {f : Int} : isf S f ↔ (∃ n : Int, 0 ≤ n ∧ n < 4 ∧ S 6 n = f) ∨ rd S 0 f := by
  unfold isf
  rw [hop_rd (by omega)]
/-- opened, by the numbers -/
theorem opd_cp {S : oS} {o : Int} : opd S o ↔ 0 < cp (fun i => S 2 i = o) 24 :=
  ⟨fun ⟨i, h0, h1, h2⟩ => cp_gt h0 h1 h2, fun h => cp_ex h⟩
theorem isf_cp {S : oS} {f : Int} : isf S f ↔ 0 < cp (fun n => S 6 n = f) 4 + fo S f := by
  rw [isf_iff]
  have a1 := cp_r (fun n => S 6 n = f) 4
  have a2 := cp_r (fun o => opd S o ∧ S 3 o = 0 ∧ S 4 o = f) 24
  constructor
  · rintro (⟨n, h0, h1, h2⟩ | ⟨o, h0, h1, h2, h3, h4⟩)
    · have := cp_gt (P := fun n => S 6 n = f) (n := 4) h0 h1 h2
      show 0 < cp _ _ + cp _ _
      omega
    · have := cp_gt (P := fun o => opd S o ∧ S 3 o = 0 ∧ S 4 o = f) (n := 24) h0 h1 ⟨h4, h2, h3⟩
      show 0 < cp _ _ + cp _ _
      omega
  · intro h
    by_cases g : 0 < cp (fun n => S 6 n = f) 4
    · exact Or.inl (cp_ex g)
    · have h : 0 < cp (fun n => S 6 n = f) 4 + cp (fun o => opd S o ∧ S 3 o = 0 ∧ S 4 o = f) 24 := h
      obtain ⟨o, h0, h1, h2, h3, h4⟩ := cp_ex (P := fun o => opd S o ∧ S 3 o = 0 ∧ S 4 o = f) (n := 24) (by omega)
      exact Or.inr ⟨o, h0, h1, h3, h4, h2⟩
/-- a free place: then an opening is free -/
theorem ph_o {S : oS} {i : Int} (h0 : 0 ≤ i) (h1 : i < 24) (h : S 2 i < 0) : exo S := by
  apply Classical.byContradiction
  intro g
  have := ph_sur (n := 24) (m := 24) (V := fun i o => S 2 i = o) h0 h1 (fun o g0 g1 => by
    have : opd S o := Classical.byContradiction fun q => g ⟨o, g0, g1, q⟩
    exact this) (fun _ _ _ q1 q2 => q1.symm.trans q2) (fun o g0 g1 q => by omega)
  omega
/-- a free name: then a file is free -/
theorem ph_f {S : oS} {n : Int} (h0 : 0 ≤ n) (h1 : n < 4) (h : S 6 n < 0) : exf S := by
  apply Classical.byContradiction
  intro g
  have := ph_sur (n := 28) (m := 28) (V := fun i o => (i < 4 ∧ S 6 i = o) ∨ (4 ≤ i ∧ S 4 (i - 4) = o)) (i0 := n) h0 (by omega) (fun o g0 g1 => by
    have : isf S o := Classical.byContradiction fun q => g ⟨o, g0, g1, q⟩
    rcases isf_iff.mp this with ⟨k, k0, k1, k2⟩ | ⟨k, k0, k1, k2, k3, k4⟩
    · exact ⟨k, k0, by omega, Or.inl ⟨k1, k2⟩⟩
    · exact ⟨k + 4, by omega, by omega, Or.inr ⟨by omega, by rw [show k + 4 - 4 = k by omega]; exact k3⟩⟩) (fun _ _ _ q1 q2 => by
    rcases q1 with ⟨a1, a2⟩ | ⟨a1, a2⟩ <;> rcases q2 with ⟨b1, b2⟩ | ⟨b1, b2⟩ <;> omega) (fun o g0 g1 q => by
    rcases q with ⟨a1, a2⟩ | ⟨a1, a2⟩ <;> omega)
  omega
/-- a free opening: then a pipe is free -/
theorem ph_p {S : oS} (h : exo S) : ∃ q : Int, 0 ≤ q ∧ q < 24 ∧ ¬ hop S 3 q := by
  obtain ⟨o, h0, h1, h2⟩ := h
  apply Classical.byContradiction
  intro g
  have := ph_sur (n := 24) (m := 24) (V := fun i q => opd S i ∧ S 4 i = q) (i0 := o) h0 h1 (fun q g0 g1 => by
    have : hop S 3 q := Classical.byContradiction fun z => g ⟨q, g0, g1, z⟩
    obtain ⟨k, k0, k1, k2, k3, k4⟩ := this
    exact ⟨k, k0, k1, k4, k3⟩) (fun _ _ _ q1 q2 => q1.2.symm.trans q2.2) (fun q g0 g1 z => h2 z.1)
  omega
theorem RX_ext {S X Y : oS} (R : RX S X) (h : ∀ (k : Nat) (i : Int), 0 ≤ i → Y k i = X k i) : RX S Y := by
  obtain ⟨r0, r1, r2, r3, r4, r5, r6, r7, r8, r9, r10, r11, r12, r13, r14, r15⟩ := R
  refine ⟨?_, ?_, ?_, ?_, ?_, ?_, ?_, ?_, ?_, ?_, ?_, ?_, ?_, ?_, ?_, ?_⟩
  · rw [h 0 0 (by omega)]; exact r0
  · intro i a b; rw [h _ i a]; exact r1 i a b
  · intro i a b; rw [h _ i a]; exact r2 i a b
  · intro i a b; rw [h _ i a]; exact r3 i a b
  · intro i a b; rw [h _ i a]; exact r4 i a b
  · intro i a b; rw [h _ i a]; exact r5 i a b
  · intro i a b; rw [h _ i a]; exact r6 i a b
  · intro i a b; rw [h _ i a]; exact r7 i a b
  · intro i a b; rw [h _ i a]; exact r8 i a b
  · intro i a b; rw [h _ i a]; exact r9 i a b
  · intro i a b; rw [h _ i a]; exact r10 i a b
  · intro i a b; rw [h _ i a]; exact r11 i a b
  · intro i a b; rw [h _ i a]; exact r12 i a b
  · intro i a b; rw [h _ i a]; exact r13 i a b
  · intro i a b; rw [h _ i a]; exact r14 i a b
  · intro q j a b d e
    have g := r13 q a b
    rw [h 13 q a]
    refine ⟨fun z => ?_, fun z => ?_⟩
    · rw [h 15 _ (by omega)]; exact (r15 q j a b d e).1 z
    · rw [h 15 _ (by omega)]; exact (r15 q j a b d e).2 z
/-- STEP: a free place i gets a free opening o of sort s for w -/
theorem stA {S S' X X' : oS} {i o s w : Int} (H : Rel S X) (hi : 0 ≤ i ∧ i < 24 ∧ S 2 i < 0) (hal : ∀ p d : Int, 0 ≤ p → p ≤ 3 → 0 ≤ d → d < 6 → i = 6 * p + d → S 1 p ≠ 0) (ho : 0 ≤ o ∧ o < 24 ∧ ¬ opd S o) (hs : 0 ≤ s ∧ s ≤ 2) (hw : 0 ≤ w ∧ w ≤ 27 ∧ (s ≠ 0 → w ≤ 23)) (hf : s ≠ 0 → ¬ rd S s w)
    (e1 : ∀ j, S' 1 j = S 1 j) (e2 : ∀ j, S' 2 j = if j = i then o else S 2 j) (e3 : ∀ j, S' 3 j = if j = o then s else S 3 j) (e4 : ∀ j, S' 4 j = if j = o then w else S 4 j) (e5 : ∀ j, S' 5 j = if j = o then 0 else S 5 j) (e6 : ∀ j, S' 6 j = S 6 j) (e7 : ∀ j, S' 7 j = S 7 j) (e8 : ∀ j, S' 8 j = S 8 j) (e9 : ∀ j, S' 9 j = S 9 j) (e10 : ∀ j, S' 10 j = S 10 j)
    (x0 : X' 0 0 = X 0 0) (x1 : ∀ j, X' 1 j = X 1 j) (x2 : ∀ j, X' 2 j = if j = i then o else X 2 j) (x3 : ∀ j, X' 3 j = if j = o then 1 else X 3 j) (x4 : ∀ j, X' 4 j = if j = o then s + 1 else X 4 j) (x5 : ∀ j, X' 5 j = if j = o then w else X 5 j) (x6 : ∀ j, X' 6 j = if j = o then 0 else X 6 j) (x7 : ∀ j, X' 7 j = X 7 j)
    (x8 : ∀ j, X' 8 j = if s = 0 ∧ j = w then X 8 j + 1 else X 8 j) (x9 : ∀ j, X' 9 j = X 9 j) (x10 : ∀ j, X' 10 j = X 10 j) (x11 : ∀ j, X' 11 j = if s = 1 ∧ j = w then 1 else X 11 j) (x12 : ∀ j, X' 12 j = if s = 2 ∧ j = w then 1 else X 12 j) (x13 : ∀ j, X' 13 j = X 13 j) (x14 : ∀ j, X' 14 j = X 14 j) (x15 : ∀ j, X' 15 j = X 15 j) : Rel S' X' := by
  obtain ⟨⟨i1, i2, i3, i4, i45, i5, i6, i7, i9, iD, iL, iU⟩, r0, r1, r2, r3, r4, r5, r6, r7, r8, r9, r10, r11, r12, r13, r14, r15⟩ := H
  obtain ⟨hi0, hi1, hi2⟩ := hi
  obtain ⟨ho0, ho1, ho2⟩ := ho
  have op : ∀ j, 0 ≤ j → (opd S' j ↔ opd S j ∨ j = o) := fun j hj => by
    constructor
    · rintro ⟨k, k0, k1, k2⟩
      rw [e2] at k2
      by_cases g : k = i
      · rw [if_pos g] at k2; exact Or.inr k2.symm
      · rw [if_neg g] at k2; exact Or.inl ⟨k, k0, k1, k2⟩
    · rintro (⟨k, k0, k1, k2⟩ | g)
      · exact ⟨k, k0, k1, by rw [e2, if_neg (fun z => by rw [z] at k2; omega)]; exact k2⟩
      · exact ⟨i, hi0, hi1, by rw [e2, if_pos rfl]; exact g.symm⟩
  have opn : ∀ j, 0 ≤ j → j ≠ o → (opd S' j ↔ opd S j) := fun j hj g => by
    rw [op j hj]; exact ⟨fun q => q.resolve_right g, Or.inl⟩
  have rdA : ∀ t q, rd S' t q ↔ rd S t q ∨ (t = s ∧ q = w) := fun t q => by
    constructor
    · rintro ⟨k, k0, k1, k2, k3, k4⟩
      rw [e3] at k2; rw [e4] at k3
      by_cases g : k = o
      · rw [if_pos g] at k2 k3; exact Or.inr ⟨k2.symm, k3.symm⟩
      · rw [if_neg g] at k2 k3; exact Or.inl ⟨k, k0, k1, k2, k3, (opn k k0 g).mp k4⟩
    · rintro (⟨k, k0, k1, k2, k3, k4⟩ | ⟨g1, g2⟩)
      · have g : k ≠ o := fun z => ho2 (z ▸ k4)
        exact ⟨k, k0, k1, by rw [e3, if_neg g]; exact k2, by rw [e4, if_neg g]; exact k3, (opn k k0 g).mpr k4⟩
      · exact ⟨o, ho0, ho1, by rw [e3, if_pos rfl, g1], by rw [e4, if_pos rfl, g2], (op o ho0).mpr (Or.inr rfl)⟩
  refine ⟨⟨?_, ?_, ?_, ?_, ?_, ?_, ?_, ?_, ?_, ?_, ?_, ?_⟩, ?_, ?_, ?_, ?_, ?_, ?_, ?_, ?_, ?_, ?_, ?_, ?_, ?_, ?_, ?_, ?_⟩
  · intro j a b; rw [e1]; exact i1 j a b
  · intro j a b; rw [e2]; have := i2 j a b; split <;> omega
  · intro j a b; rw [e3]; have := i3 j a b; split <;> omega
  · intro j a b; rw [e4]; have := i4 j a b; split <;> omega
  · intro j a b g; rw [e3] at g; rw [e4]; have := i45 j a b
    by_cases z : j = o
    · rw [if_pos z] at g ⊢; exact hw.2.2 g
    · rw [if_neg z] at g ⊢; exact this g
  · intro j a b; rw [e5]; have := i5 j a b; split <;> omega
  · intro j a b; rw [e6]; exact i6 j a b
  · intro j a b; rw [e7]; exact i7 j a b
  · intro j a b; rw [e9]; exact i9 j a b
  · intro p d a b g c f
    rw [e1] at g
    rw [e2, if_neg (fun z => hal p d a b c f z.symm g)]
    exact iD p d a b g c f
  · intro j a b g z
    rw [e3] at z; rw [e4, e5, e7]
    by_cases y : j = o
    · rw [if_pos y, if_pos y]; exact (i7 w (by omega) (by omega)).1
    · rw [if_neg y] at z ⊢; rw [if_neg y]; exact iL j a b ((opn j a y).mp g) z
  · intro j q a b c d g1 g2 g3 g4 g5
    rw [e3, e3] at g3; rw [e3] at g4; rw [e4, e4] at g5
    by_cases y : j = o <;> by_cases z : q = o
    · omega
    · rw [if_pos y, if_neg z] at g3 g5; rw [if_pos y] at g4
      exact absurd ⟨q, c, d, g3.symm, g5.symm, (opn q c z).mp g2⟩ (hf g4)
    · rw [if_neg y, if_pos z] at g3 g5; rw [if_neg y] at g4
      exact absurd ⟨j, a, b, g3, g5, (opn j a y).mp g1⟩ (hf (by omega))
    · rw [if_neg y, if_neg z] at g3 g5; rw [if_neg y] at g4
      exact iU j q a b c d ((opn j a y).mp g1) ((opn q c z).mp g2) g3 g4 g5
  · rw [x0, r0]; exact cp_congr 4 (fun j _ _ => by rw [e1])
  · intro j a b; rw [x1, e1]; exact r1 j a b
  · intro j a b; rw [x2, e2, r2 j a b]
  · intro j a b
    rw [x3]
    by_cases g : j = o
    · rw [if_pos g, cp_add (P := fun k => S 2 k = j) (Q := fun k => S' 2 k = j) 24 hi0 hi1 (fun k _ _ z => by rw [e2, if_neg z]) (by omega) (by rw [e2, if_pos rfl]; exact g.symm), cp_0 24 (fun k k0 k1 k2 => ho2 ⟨k, k0, k1, by omega⟩)]
      rfl
    · rw [if_neg g, r3 j a b]
      refine cp_congr 24 (fun k _ _ => ?_)
      rw [e2]
      by_cases z : k = i
      · rw [if_pos z, z]; constructor <;> intro q <;> omega
      · rw [if_neg z]
  · intro j a b
    rw [x4, e3, e4]
    by_cases g : j = o
    · rw [if_pos g, if_pos g]; exact Or.inl rfl
    · rw [if_neg g, if_neg g, if_neg g, opn j a g]; exact r4 j a b
  · intro j a b; rw [x5, e4, r5 j a b]
  · intro j a b; rw [x6, e5, r6 j a b]
  · intro j a b; rw [x7, e6]; exact r7 j a b
  · intro f a b
    have e : cp (fun n => S' 6 n = f) 4 = cp (fun n => S 6 n = f) 4 := cp_congr 4 (fun n _ _ => by rw [e6])
    rw [x8, e, r8 f a b]
    by_cases g : s = 0 ∧ f = w
    · rw [if_pos g]
      have e' : fo S' f = fo S f + 1 := cp_add (P := fun o => opd S o ∧ S 3 o = 0 ∧ S 4 o = f) (Q := fun o => opd S' o ∧ S' 3 o = 0 ∧ S' 4 o = f) 24 ho0 ho1 (fun k k0 _ z => by rw [e3, e4, if_neg z, if_neg z, opn k k0 z]) (fun z => ho2 z.1) ⟨(op o ho0).mpr (Or.inr rfl), by rw [e3, if_pos rfl]; exact g.1, by rw [e4, if_pos rfl]; exact g.2.symm⟩
      rw [e']; omega
    · rw [if_neg g]
      have e' : fo S' f = fo S f := cp_congr 24 (fun k k0 _ => by
        by_cases z : k = o
        · rw [e3, e4, if_pos z, if_pos z]
          constructor
          · intro q; exact absurd ⟨q.2.1, q.2.2.symm⟩ g
          · intro q; exact absurd (z ▸ q.1) ho2
        · rw [e3, e4, if_neg z, if_neg z, opn k k0 z])
      rw [e']
  · intro f a b; rw [x9, e7]; exact r9 f a b
  · intro j a b; rw [x10, e8]; exact r10 j a b
  · intro q a b
    rw [x11, rdA]
    by_cases g : s = 1 ∧ q = w
    · rw [if_pos g]; exact Or.inl ⟨rfl, Or.inr ⟨g.1.symm, g.2⟩⟩
    · rw [if_neg g]
      rcases r11 q a b with ⟨y, z⟩ | ⟨y, z⟩
      · exact Or.inl ⟨y, Or.inl z⟩
      · exact Or.inr ⟨y, fun k => k.elim z (fun k => g ⟨k.1.symm, k.2⟩)⟩
  · intro q a b
    rw [x12, rdA]
    by_cases g : s = 2 ∧ q = w
    · rw [if_pos g]; exact Or.inl ⟨rfl, Or.inr ⟨g.1.symm, g.2⟩⟩
    · rw [if_neg g]
      rcases r12 q a b with ⟨y, z⟩ | ⟨y, z⟩
      · exact Or.inl ⟨y, Or.inl z⟩
      · exact Or.inr ⟨y, fun k => k.elim z (fun k => g ⟨k.1.symm, k.2⟩)⟩
  · intro j a b; rw [x13]; exact r13 j a b
  · intro j a b; rw [x14, e9]; exact r14 j a b
  · intro q j a b c d
    rw [e9] at d
    rw [x13, x15, x15, e10]
    exact r15 q j a b c d
end
section
/-! plain: steps that keep the tie -/
theorem opd_eq {S S' : oS} (e2 : ∀ j, S' 2 j = S 2 j) (j : Int) : opd S' j ↔ opd S j := by
  constructor
  · rintro ⟨k, k0, k1, k2⟩; exact ⟨k, k0, k1, by rw [← e2]; exact k2⟩
  · rintro ⟨k, k0, k1, k2⟩; exact ⟨k, k0, k1, by rw [e2]; exact k2⟩
theorem rd_eq {S S' : oS} (op : ∀ j, 0 ≤ j → (opd S' j ↔ opd S j)) (e3 : ∀ j, S' 3 j = S 3 j) (e4 : ∀ j, S' 4 j = S 4 j) (t q : Int) : rd S' t q ↔ rd S t q := by
  constructor
  · rintro ⟨k, k0, k1, k2, k3, k4⟩; exact ⟨k, k0, k1, by rw [← e3]; exact k2, by rw [← e4]; exact k3, (op k k0).mp k4⟩
  · rintro ⟨k, k0, k1, k2, k3, k4⟩; exact ⟨k, k0, k1, by rw [e3]; exact k2, by rw [e4]; exact k3, (op k k0).mpr k4⟩
theorem fo_eq {S S' : oS} (op : ∀ j, 0 ≤ j → (opd S' j ↔ opd S j)) (e3 : ∀ j, S' 3 j = S 3 j) (e4 : ∀ j, S' 4 j = S 4 j) (f : Int) : fo S' f = fo S f :=
  cp_congr 24 (fun k k0 _ => by rw [e3, e4, op k k0])
/-- STEP: the openings stay as they are -/
theorem stK {S S' X X' : oS} (H : Rel S X) (e1 : ∀ j, S' 1 j = S 1 j) (e2 : ∀ j, S' 2 j = S 2 j) (e3 : ∀ j, S' 3 j = S 3 j) (e4 : ∀ j, S' 4 j = S 4 j)
    (x0 : X' 0 0 = X 0 0) (x1 : ∀ j, X' 1 j = X 1 j) (x2 : ∀ j, X' 2 j = X 2 j) (x3 : ∀ j, X' 3 j = X 3 j) (x4 : ∀ j, X' 4 j = X 4 j) (x5 : ∀ j, X' 5 j = X 5 j) (x11 : ∀ j, X' 11 j = X 11 j) (x12 : ∀ j, X' 12 j = X 12 j)
    (i5 : rg S' 5 24 0 8) (i6 : rg S' 6 4 (-1) 27) (i7 : rg S' 7 28 0 8) (i9 : rg S' 9 24 0 6) (iL : ∀ o : Int, 0 ≤ o → o < 24 → opd S o → S 3 o = 0 → S' 5 o ≤ S' 7 (S 4 o))
    (r6 : ∀ o : Int, 0 ≤ o → o < 24 → X' 6 o = S' 5 o) (r7 : ∀ n : Int, 0 ≤ n → n < 4 → X' 7 n = S' 6 n) (r8 : ∀ f : Int, 0 ≤ f → f < 28 → X' 8 f = cp (fun n => S' 6 n = f) 4 + fo S f) (r9 : ∀ f : Int, 0 ≤ f → f < 28 → X' 9 f = S' 7 f) (r10 : ∀ i : Int, 0 ≤ i → i < 224 → X' 10 i = S' 8 i)
    (r13 : rg X' 13 24 0 5) (r14 : ∀ q : Int, 0 ≤ q → q < 24 → X' 14 q = S' 9 q)
    (r15 : ∀ q j : Int, 0 ≤ q → q < 24 → 0 ≤ j → j < S' 9 q → (X' 13 q + j < 6 → X' 15 (6 * q + (X' 13 q + j)) = S' 10 (6 * q + j)) ∧ (6 ≤ X' 13 q + j → X' 15 (6 * q + (X' 13 q + j - 6)) = S' 10 (6 * q + j))) : Rel S' X' := by
  obtain ⟨⟨i1, i2, i3, i4, i45, -, -, -, -, iD, -, iU⟩, r0, r1, r2, r3, r4, r5, -, -, -, -, -, r11, r12, -, -, -⟩ := H
  have op := fun j (_ : (0 : Int) ≤ j) => opd_eq e2 j
  refine ⟨⟨?_, ?_, ?_, ?_, ?_, i5, i6, i7, i9, ?_, ?_, ?_⟩, ?_, ?_, ?_, ?_, ?_, ?_, r6, r7, ?_, r9, r10, ?_, ?_, r13, r14, r15⟩
  · intro j a b; rw [e1]; exact i1 j a b
  · intro j a b; rw [e2]; exact i2 j a b
  · intro j a b; rw [e3]; exact i3 j a b
  · intro j a b; rw [e4]; exact i4 j a b
  · intro j a b; rw [e3, e4]; exact i45 j a b
  · intro p d a b g c f; rw [e1] at g; rw [e2]; exact iD p d a b g c f
  · intro j a b g z; rw [e3] at z; rw [e4]; exact iL j a b ((op j a).mp g) z
  · intro j q a b c d g1 g2 g3 g4 g5
    rw [e3, e3] at g3; rw [e3] at g4; rw [e4, e4] at g5
    exact iU j q a b c d ((op j a).mp g1) ((op q c).mp g2) g3 g4 g5
  · rw [x0, r0]; exact cp_congr 4 (fun j _ _ => by rw [e1])
  · intro j a b; rw [x1, e1]; exact r1 j a b
  · intro j a b; rw [x2, e2]; exact r2 j a b
  · intro j a b; rw [x3, r3 j a b]; exact cp_congr 24 (fun k _ _ => by rw [e2])
  · intro j a b; rw [x4, e3, e4, op j a]; exact r4 j a b
  · intro j a b; rw [x5, e4]; exact r5 j a b
  · intro f a b; rw [fo_eq op e3 e4]; exact r8 f a b
  · intro q a b; rw [x11, rd_eq op e3 e4]; exact r11 q a b
  · intro q a b; rw [x12, rd_eq op e3 e4]; exact r12 q a b
/-- STEP: places change, no new opening -/
theorem stO {S S' X X' : oS} (H : Rel S X) (eS : ∀ (k : Nat) (j : Int), k ≠ 2 → S' k j = S k j) (eX : ∀ (k : Nat) (j : Int), k ≠ 2 → k ≠ 3 → k ≠ 8 → k ≠ 11 → k ≠ 12 → X' k j = X k j)
    (i2 : rg S' 2 24 (-1) 23) (iD : ∀ p d : Int, 0 ≤ p → p ≤ 3 → S 1 p = 0 → 0 ≤ d → d < 6 → S' 2 (6 * p + d) = -1) (op : ∀ j, 0 ≤ j → opd S' j → opd S j)
    (r2 : ∀ i : Int, 0 ≤ i → i < 24 → X' 2 i = S' 2 i) (r3 : ∀ o : Int, 0 ≤ o → o < 24 → X' 3 o = cp (fun i => S' 2 i = o) 24) (r8 : ∀ f : Int, 0 ≤ f → f < 28 → X' 8 f = cp (fun n => S 6 n = f) 4 + fo S' f)
    (r11 : ∀ q : Int, 0 ≤ q → q < 24 → (X' 11 q = 1 ∧ rd S' 1 q) ∨ (X' 11 q = 0 ∧ ¬ rd S' 1 q)) (r12 : ∀ q : Int, 0 ≤ q → q < 24 → (X' 12 q = 1 ∧ rd S' 2 q) ∨ (X' 12 q = 0 ∧ ¬ rd S' 2 q)) : Rel S' X' := by
  obtain ⟨⟨i1, -, i3, i4, i45, i5, i6, i7, i9, -, iL, iU⟩, r0, r1, -, -, r4, r5, r6, r7, -, r9, r10, -, -, r13, r14, r15⟩ := H
  have e : ∀ (k : Nat), k ≠ 2 → S' k = S k := fun k h => funext fun j => eS k j h
  have x : ∀ (k : Nat), k ≠ 2 → k ≠ 3 → k ≠ 8 → k ≠ 11 → k ≠ 12 → X' k = X k := fun k h1 h2 h3 h4 h5 => funext fun j => eX k j h1 h2 h3 h4 h5
  have e1 := e 1 (by decide)
  have e3 := e 3 (by decide)
  have e4 := e 4 (by decide)
  have e5 := e 5 (by decide)
  have e6 := e 6 (by decide)
  have e7 := e 7 (by decide)
  have e8 := e 8 (by decide)
  have e9 := e 9 (by decide)
  have e10 := e 10 (by decide)
  have x0 := x 0 (by decide) (by decide) (by decide) (by decide) (by decide)
  have x1 := x 1 (by decide) (by decide) (by decide) (by decide) (by decide)
  have x4 := x 4 (by decide) (by decide) (by decide) (by decide) (by decide)
  have x5 := x 5 (by decide) (by decide) (by decide) (by decide) (by decide)
  have x6 := x 6 (by decide) (by decide) (by decide) (by decide) (by decide)
  have x7 := x 7 (by decide) (by decide) (by decide) (by decide) (by decide)
  have x9 := x 9 (by decide) (by decide) (by decide) (by decide) (by decide)
  have x10 := x 10 (by decide) (by decide) (by decide) (by decide) (by decide)
  have x13 := x 13 (by decide) (by decide) (by decide) (by decide) (by decide)
  have x14 := x 14 (by decide) (by decide) (by decide) (by decide) (by decide)
  have x15 := x 15 (by decide) (by decide) (by decide) (by decide) (by decide)
  refine ⟨⟨?_, i2, ?_, ?_, ?_, ?_, ?_, ?_, ?_, ?_, ?_, ?_⟩, ?_, ?_, r2, r3, ?_, ?_, ?_, ?_, ?_, ?_, ?_, r11, r12, ?_, ?_, ?_⟩
  · rw [show rg S' 1 4 0 1 ↔ rg S 1 4 0 1 by unfold rg; rw [e1]]; exact i1
  · intro j a b; rw [e3]; exact i3 j a b
  · intro j a b; rw [e4]; exact i4 j a b
  · intro j a b; rw [e3, e4]; exact i45 j a b
  · intro j a b; rw [e5]; exact i5 j a b
  · intro j a b; rw [e6]; exact i6 j a b
  · intro j a b; rw [e7]; exact i7 j a b
  · intro j a b; rw [e9]; exact i9 j a b
  · intro p d a b g; rw [e1] at g; exact iD p d a b g
  · intro j a b g; rw [e3, e4, e5, e7]; exact iL j a b (op j a g)
  · intro j q a b c d g1 g2; rw [e3, e4]; exact iU j q a b c d (op j a g1) (op q c g2)
  · rw [x0, e1]; exact r0
  · intro j a b; rw [x1, e1]; exact r1 j a b
  · intro j a b
    rw [x4, e3, e4]
    rcases r4 j a b with g | ⟨g1, g2, g3⟩
    · exact Or.inl g
    · exact Or.inr ⟨g1, fun z => g2 (op j a z), g3⟩
  · intro j a b; rw [x5, e4]; exact r5 j a b
  · intro j a b; rw [x6, e5]; exact r6 j a b
  · intro j a b; rw [x7, e6]; exact r7 j a b
  · intro j a b; rw [e6]; exact r8 j a b
  · intro j a b; rw [x9, e7]; exact r9 j a b
  · intro j a b; rw [x10, e8]; exact r10 j a b
  · intro j a b; rw [x13]; exact r13 j a b
  · intro j a b; rw [x14, e9]; exact r14 j a b
  · intro q j a b c d; rw [e9] at d; rw [x13, x15, e10]; exact r15 q j a b c d
/-- STEP: a free place i leads to an opening that is there -/
theorem stC {S S' X X' : oS} {i o : Int} (H : Rel S X) (hi : 0 ≤ i ∧ i < 24 ∧ S 2 i < 0) (hal : ∀ p d : Int, 0 ≤ p → p ≤ 3 → 0 ≤ d → d < 6 → i = 6 * p + d → S 1 p ≠ 0) (ho : 0 ≤ o ∧ o < 24 ∧ opd S o)
    (e2 : ∀ j, S' 2 j = if j = i then o else S 2 j) (eS : ∀ (k : Nat) (j : Int), k ≠ 2 → S' k j = S k j) (x2 : ∀ j, 0 ≤ j → X' 2 j = if j = i then o else X 2 j) (x3 : ∀ j, 0 ≤ j → X' 3 j = if j = o then X 3 j + 1 else X 3 j) (eX : ∀ (k : Nat) (j : Int), k ≠ 2 → k ≠ 3 → X' k j = X k j) : Rel S' X' := by
  obtain ⟨hi0, hi1, hi2⟩ := hi
  obtain ⟨ho0, ho1, ho2⟩ := ho
  have H' := H
  obtain ⟨⟨i1, i2, i3, i4, i45, i5, i6, i7, i9, iD, iL, iU⟩, r0, r1, r2, r3, r4, r5, r6, r7, r8, r9, r10, r11, r12, r13, r14, r15⟩ := H'
  have op : ∀ j, 0 ≤ j → (opd S' j ↔ opd S j) := fun j hj => by
    constructor
    · rintro ⟨k, k0, k1, k2⟩
      rw [e2] at k2
      by_cases g : k = i
      · rw [if_pos g] at k2; rw [← k2]; exact ho2
      · rw [if_neg g] at k2; exact ⟨k, k0, k1, k2⟩
    · rintro ⟨k, k0, k1, k2⟩
      exact ⟨k, k0, k1, by rw [e2, if_neg (fun z => by rw [z] at k2; omega)]; exact k2⟩
  have e3 := fun j => eS 3 j (by decide)
  have e4 := fun j => eS 4 j (by decide)
  refine stO H eS (fun k j h1 h2 _ _ _ => eX k j h1 h2) ?_ ?_ (fun j hj => (op j hj).mp) ?_ ?_ ?_ ?_ ?_
  · intro j a b; rw [e2]; have := i2 j a b; split <;> omega
  · intro p d a b g c f; rw [e2, if_neg (fun z => hal p d a b c f z.symm g)]; exact iD p d a b g c f
  · intro j a b; rw [x2 j a, e2, r2 j a b]
  · intro j a b
    rw [x3 j a]
    by_cases g : j = o
    · rw [if_pos g, r3 j a b, cp_add (P := fun k => S 2 k = j) (Q := fun k => S' 2 k = j) 24 hi0 hi1 (fun k _ _ z => by rw [e2, if_neg z]) (by omega) (by rw [e2, if_pos rfl]; exact g.symm)]
    · rw [if_neg g, r3 j a b]
      refine cp_congr 24 (fun k _ _ => ?_)
      rw [e2]
      by_cases z : k = i
      · rw [if_pos z, z]; constructor <;> intro q <;> omega
      · rw [if_neg z]
  · intro f a b; rw [eX 8 f (by decide) (by decide), fo_eq op e3 e4]; exact r8 f a b
  · intro q a b; rw [eX 11 q (by decide) (by decide), rd_eq op e3 e4]; exact r11 q a b
  · intro q a b; rw [eX 12 q (by decide) (by decide), rd_eq op e3 e4]; exact r12 q a b
/-- STEP: a place i that leads to o is let go -/
theorem stB {S X : oS} {i o : Int} (H : Rel S X) (hi : 0 ≤ i ∧ i < 24) (ho : S 2 i = o) (ho0 : 0 ≤ o) : Rel (su S 2 i (-1)) (lg (su X 2 i (-1)) o) := by
  obtain ⟨hi0, hi1⟩ := hi
  have H' := H
  obtain ⟨⟨i1, i2, i3, i4, i45, i5, i6, i7, i9, iD, iL, iU⟩, r0, r1, r2, r3, r4, r5, r6, r7, r8, r9, r10, r11, r12, r13, r14, r15⟩ := H'
  have ho1 : o < 24 := by have := i2 i hi0 hi1; omega
  have hop : opd S o := ⟨i, hi0, hi1, ho⟩
  generalize hS' : su S 2 i (-1) = S'
  have e2 : ∀ j, S' 2 j = if j = i then -1 else S 2 j := fun j => by rw [← hS']; simp [su]
  have eS : ∀ (k : Nat) (j : Int), k ≠ 2 → S' k j = S k j := fun k j h => by rw [← hS']; exact su_k h
  have e3 := fun j => eS 3 j (by decide)
  have e4 := fun j => eS 4 j (by decide)
  have hc : cp (fun k => S 2 k = o) 24 = cp (fun k => S' 2 k = o) 24 + 1 := cp_add (P := fun k => S' 2 k = o) (Q := fun k => S 2 k = o) 24 hi0 hi1 (fun k _ _ z => by rw [e2, if_neg z]) (by rw [e2, if_pos rfl]; omega) ho
  have hx4 : X 4 o = S 3 o + 1 := (r4 o ho0 ho1).resolve_right (fun z => z.2.1 hop)
  have hx5 := r5 o ho0 ho1
  have hx3 := r3 o ho0 ho1
  have opn : ∀ j, 0 ≤ j → j ≠ o → (opd S' j ↔ opd S j) := fun j hj g => by
    constructor
    · rintro ⟨k, k0, k1, k2⟩
      rw [e2] at k2
      by_cases z : k = i
      · rw [if_pos z] at k2; omega
      · rw [if_neg z] at k2; exact ⟨k, k0, k1, k2⟩
    · rintro ⟨k, k0, k1, k2⟩
      exact ⟨k, k0, k1, by rw [e2, if_neg (fun z => by rw [z] at k2; omega)]; exact k2⟩
  have i2' : rg S' 2 24 (-1) 23 := fun j a b => by rw [e2]; have := i2 j a b; split <;> omega
  have iD' : ∀ p d : Int, 0 ≤ p → p ≤ 3 → S 1 p = 0 → 0 ≤ d → d < 6 → S' 2 (6 * p + d) = -1 := fun p d a b g c f => by
    rw [e2]
    split
    · rfl
    · exact iD p d a b g c f
  have cpn : ∀ j, 0 ≤ j → j ≠ o → cp (fun k => S' 2 k = j) 24 = cp (fun k => S 2 k = j) 24 := fun j hj g => cp_congr 24 (fun k _ _ => by
    rw [e2]
    by_cases z : k = i
    · rw [if_pos z, z]; constructor <;> intro q <;> omega
    · rw [if_neg z])
  unfold lg
  rw [su_k (by decide), su_k (by decide), su_k (by decide), su_k (by decide)]
  by_cases hn : 0 < X 3 o - 1
  · rw [if_pos hn]
    have op : ∀ j, 0 ≤ j → (opd S' j ↔ opd S j) := fun j hj => by
      by_cases g : j = o
      · rw [g]; exact ⟨fun _ => hop, fun _ => opd_cp.mpr (by omega)⟩
      · exact opn j hj g
    refine stO H eS (fun k j h1 h2 _ _ _ => by rw [su_k h2, su_k h1]) i2' iD' (fun j hj => (op j hj).mp) ?_ ?_ ?_ ?_ ?_
    · intro j a b; rw [su_k (by decide), e2, ← r2 j a b]; simp [su]
    · intro j a b
      by_cases g : j = o
      · rw [g, su_s]; omega
      · rw [su_n g, su_k (by decide), r3 j a b, cpn j a g]
    · intro f a b; rw [su_k (by decide), su_k (by decide), fo_eq op e3 e4]; exact r8 f a b
    · intro q a b; rw [su_k (by decide), su_k (by decide), rd_eq op e3 e4]; exact r11 q a b
    · intro q a b; rw [su_k (by decide), su_k (by decide), rd_eq op e3 e4]; exact r12 q a b
  · rw [if_neg hn]
    have hno : ¬ opd S' o := fun z => by have := opd_cp.mp z; omega
    have op : ∀ j, 0 ≤ j → opd S' j → opd S j := fun j hj g => by
      by_cases z : j = o
      · rw [z]; exact hop
      · exact (opn j hj z).mp g
    have rdn : ∀ t q, ¬ (t = S 3 o ∧ q = S 4 o) → (rd S' t q ↔ rd S t q) := fun t q g => by
      constructor
      · rintro ⟨k, k0, k1, k2, k3, k4⟩
        exact ⟨k, k0, k1, by rw [← e3]; exact k2, by rw [← e4]; exact k3, op k k0 k4⟩
      · rintro ⟨k, k0, k1, k2, k3, k4⟩
        have z : k ≠ o := fun z => g ⟨by rw [← k2, z], by rw [← k3, z]⟩
        exact ⟨k, k0, k1, by rw [e3]; exact k2, by rw [e4]; exact k3, (opn k k0 z).mpr k4⟩
    have rdo : S 3 o ≠ 0 → ¬ rd S' (S 3 o) (S 4 o) := fun g => by
      rintro ⟨k, k0, k1, k2, k3, k4⟩
      have z : k = o := iU k o k0 k1 ho0 ho1 (op k k0 k4) hop (by rw [← e3]; exact k2) (by rw [← e3, k2]; exact g) (by rw [← e4]; exact k3)
      exact hno (z ▸ k4)
    have fon : ∀ f, ¬ (S 3 o = 0 ∧ S 4 o = f) → fo S' f = fo S f := fun f g => cp_congr 24 (fun k k0 _ => by
      by_cases z : k = o
      · rw [z]; exact ⟨fun q => absurd q.1 hno, fun q => absurd ⟨q.2.1, q.2.2⟩ g⟩
      · rw [e3, e4, opn k k0 z])
    have hs3 := i3 o ho0 ho1
    have hs4 := i4 o ho0 ho1
    have c2 : ∀ Y : oS, (∀ j, Y 2 j = su X 2 i (-1) 2 j) → ∀ j, 0 ≤ j → j < 24 → Y 2 j = S' 2 j := fun Y hY j a b => by
      rw [hY, e2, ← r2 j a b]; simp [su]
    have c3 : ∀ Y : oS, (∀ j, Y 3 j = su X 3 o (X 3 o - 1) 3 j) → ∀ j, 0 ≤ j → j < 24 → Y 3 j = cp (fun k => S' 2 k = j) 24 := fun Y hY j a b => by
      rw [hY]
      by_cases g : j = o
      · rw [g, su_s]; omega
      · rw [su_n g, r3 j a b, cpn j a g]
    by_cases h1 : X 4 o = 1
    · rw [if_pos h1]
      have hs0 : S 3 o = 0 := by omega
      refine stO H eS (fun k j g1 g2 g3 _ _ => by rw [su_k g3, su_k g2, su_k g1]) i2' iD' op (c2 _ fun j => by simp [su]) (c3 _ fun j => by simp [su]) ?_ ?_ ?_
      · intro f a b
        by_cases g : f = X 5 o
        · have e' : fo S f = fo S' f + 1 := cp_add (P := fun o => opd S' o ∧ S' 3 o = 0 ∧ S' 4 o = f) (Q := fun o => opd S o ∧ S 3 o = 0 ∧ S 4 o = f) 24 ho0 ho1 (fun k k0 _ z => by rw [e3, e4, opn k k0 z]) (fun z => hno z.1) ⟨hop, hs0, by omega⟩
          rw [g, su_s, ← g, r8 f a b, e']; omega
        · rw [su_n g, su_k (by decide), su_k (by decide), r8 f a b, fon f (fun z => g (by omega))]
      · intro q a b; rw [su_k (by decide), su_k (by decide), su_k (by decide), rdn 1 q (fun z => by omega)]; exact r11 q a b
      · intro q a b; rw [su_k (by decide), su_k (by decide), su_k (by decide), rdn 2 q (fun z => by omega)]; exact r12 q a b
    · rw [if_neg h1]
      by_cases h2 : X 4 o = 2
      · rw [if_pos h2]
        refine stO H eS (fun k j g1 g2 _ g4 _ => by rw [su_k g4, su_k g2, su_k g1]) i2' iD' op (c2 _ fun j => by simp [su]) (c3 _ fun j => by simp [su]) ?_ ?_ ?_
        · intro f a b; rw [su_k (by decide), su_k (by decide), su_k (by decide), fon f (fun z => by omega)]; exact r8 f a b
        · intro q a b
          by_cases g : q = X 5 o
          · rw [g, su_s]; refine Or.inr ⟨rfl, ?_⟩; rw [hx5, show (1 : Int) = S 3 o by omega]; exact rdo (by omega)
          · rw [su_n g, su_k (by decide), su_k (by decide), rdn 1 q (fun z => g (by omega))]; exact r11 q a b
        · intro q a b; rw [su_k (by decide), su_k (by decide), su_k (by decide), rdn 2 q (fun z => by omega)]; exact r12 q a b
      · rw [if_neg h2]
        refine stO H eS (fun k j g1 g2 _ _ g5 => by rw [su_k g5, su_k g2, su_k g1]) i2' iD' op (c2 _ fun j => by simp [su]) (c3 _ fun j => by simp [su]) ?_ ?_ ?_
        · intro f a b; rw [su_k (by decide), su_k (by decide), su_k (by decide), fon f (fun z => by omega)]; exact r8 f a b
        · intro q a b; rw [su_k (by decide), su_k (by decide), su_k (by decide), rdn 1 q (fun z => by omega)]; exact r11 q a b
        · intro q a b
          by_cases g : q = X 5 o
          · rw [g, su_s]; refine Or.inr ⟨rfl, ?_⟩; rw [hx5, show (2 : Int) = S 3 o by omega]; exact rdo (by omega)
          · rw [su_n g, su_k (by decide), su_k (by decide), rdn 2 q (fun z => g (by omega))]; exact r12 q a b
/-- STEP: processes -/
theorem stL {S X : oS} {c v : Int} (H : Rel S X) (hc : 0 ≤ c ∧ c < 4) (hv : v = 0 ∨ v = 1) (hD : v = 0 → ∀ d : Int, 0 ≤ d → d < 6 → S 2 (6 * c + d) = -1) {n : Int} (hn : n = cp (fun j => su S 1 c v 1 j ≠ 0) 4) : Rel (su S 1 c v) (su (su X 1 c v) 0 0 n) := by
  obtain ⟨⟨i1, i2, i3, i4, i45, i5, i6, i7, i9, iD, iL, iU⟩, r0, r1, r2, r3, r4, r5, r6, r7, r8, r9, r10, r11, r12, r13, r14, r15⟩ := H
  refine ⟨⟨?_, i2, i3, i4, i45, i5, i6, i7, i9, ?_, iL, iU⟩, ?_, ?_, r2, r3, r4, r5, r6, r7, r8, r9, r10, r11, r12, r13, r14, r15⟩
  · exact rg_su i1 (by omega) (by omega)
  · intro p d a b g e f
    rw [su_k (by decide)]
    by_cases z : p = c
    · rw [z] at g ⊢; rw [su_s] at g; exact hD g d e f
    · rw [su_n z] at g; exact iD p d a b g e f
  · rw [su_s]; exact hn
  · intro i a b; rw [su_k (by decide)]
    by_cases z : i = c
    · rw [z, su_s, su_s]
    · rw [su_n z, su_n z]; exact r1 i a b
end
section
/-! plain: one theorem an operation: the answers are equal and the tie is kept (first half) -/
section OPS1
variable {S X S' X' : oS} {pp dd nn zx zm fm z z' : Int}
theorem tr_al (H : Rel S X) : al X pp ↔ al S pp := by
  have r1 := H.2.2.1
  constructor
  · rintro ⟨h0, h1, h2⟩; exact ⟨h0, h1, by rw [← r1 pp h0 (by omega)]; exact h2⟩
  · rintro ⟨h0, h1, h2⟩; exact ⟨h0, h1, by rw [r1 pp h0 (by omega)]; exact h2⟩
theorem tr_2 (H : Rel S X) (hp : 0 ≤ pp ∧ pp ≤ 3) {d : Int} (h0 : 0 ≤ d) (h1 : d < 6) : X 2 (6 * pp + d) = S 2 (6 * pp + d) := H.2.2.2.1 _ (by omega) (by omega)
theorem tr_has (H : Rel S X) : hasD X pp dd ↔ hasD S pp dd := by
  constructor
  · rintro ⟨h0, h1, h2, h3⟩
    have h0 := (tr_al H).mp h0
    exact ⟨h0, h1, h2, by rw [← tr_2 H ⟨h0.1, h0.2.1⟩ h1 (by omega)]; exact h3⟩
  · rintro ⟨h0, h1, h2, h3⟩
    exact ⟨(tr_al H).mpr h0, h1, h2, by rw [tr_2 H ⟨h0.1, h0.2.1⟩ h1 (by omega)]; exact h3⟩
theorem tr_nfd (H : Rel S X) (hp : 0 ≤ pp ∧ pp ≤ 3) (hf : 0 ≤ fm) : nfd X pp fm ↔ nfd S pp fm := by
  constructor
  · intro h d h0 h1; rw [← tr_2 H hp (by omega) h1]; exact h d h0 h1
  · intro h d h0 h1; rw [tr_2 H hp (by omega) h1]; exact h d h0 h1
theorem tr_lfd (H : Rel S X) (hp : 0 ≤ pp ∧ pp ≤ 3) (hf : 0 ≤ fm) : lfd X pp fm z ↔ lfd S pp fm z := by
  constructor
  · rintro ⟨h0, h1, h2, h3⟩
    exact ⟨h0, h1, by rw [← tr_2 H hp (by omega) h1]; exact h2, fun d g0 g1 => by rw [← tr_2 H hp (by omega) (by omega)]; exact h3 d g0 g1⟩
  · rintro ⟨h0, h1, h2, h3⟩
    exact ⟨h0, h1, by rw [tr_2 H hp (by omega) h1]; exact h2, fun d g0 g1 => by rw [tr_2 H hp (by omega) (by omega)]; exact h3 d g0 g1⟩
theorem lfd_u (h : lfd S pp fm z) (h' : lfd S pp fm z') : z = z' := by
  obtain ⟨h0, h1, h2, h3⟩ := h
  obtain ⟨g0, g1, g2, g3⟩ := h'
  rcases Int.lt_trichotomy z z' with q | q | q
  · have := g3 z h0 q; omega
  · exact q
  · have := h3 z' g0 q; omega
theorem lfd_n (h : lfd S pp fm z) (h' : nfd S pp fm) : False := by
  have := h' z h.1 h.2.1
  have := h.2.2.1
  omega
theorem lz_u {P : Int → Prop} {n : Int} (h : lz P n z) (h0 : 0 ≤ z') (h1 : z' < n) (h2 : P z') (h3 : ∀ j, 0 ≤ j → j < z' → ¬ P j) : z = z' := by
  rcases h with ⟨g0, g1, g2, g3⟩ | ⟨g0, g1⟩
  · rcases Int.lt_trichotomy z z' with q | q | q
    · exact absurd g2 (h3 z g0 q)
    · exact q
    · exact absurd h2 (g3 z' h0 q)
  · exact absurd h2 (g1 z' h0 h1)
theorem tr_3 (H : Rel S X) {o : Int} (h0 : 0 ≤ o) (h1 : o < 24) : X 3 o = 0 ↔ ¬ opd S o := by
  have r3 := H.2.2.2.2.1 o h0 h1
  have := cp_r (fun i => S 2 i = o) 24
  rw [opd_cp, ← r3]
  omega
theorem tr_8 (H : Rel S X) {f : Int} (h0 : 0 ≤ f) (h1 : f < 28) : X 8 f = 0 ↔ ¬ isf S f := by
  have r8 := H.2.2.2.2.2.2.2.2.2.1 f h0 h1
  have a1 := cp_r (fun n => S 6 n = f) 4
  have a2 : 0 ≤ fo S f ∧ fo S f ≤ 24 := cp_r _ 24
  rw [isf_cp, ← r8]
  omega
theorem tr_pq (H : Rel S X) {q : Int} (h0 : 0 ≤ q) (h1 : q < 24) : (X 11 q = 0 ∧ X 12 q = 0) ↔ ¬ hop S 3 q := by
  have r11 := H.2.2.2.2.2.2.2.2.2.2.2.2.1 q h0 h1
  have r12 := H.2.2.2.2.2.2.2.2.2.2.2.2.2.1 q h0 h1
  rw [hop_3 H.1.2.2.1]
  rcases r11 with ⟨a, b⟩ | ⟨a, b⟩ <;> rcases r12 with ⟨c, d⟩ | ⟨c, d⟩
  · exact ⟨fun z => by omega, fun z => absurd (Or.inl b) z⟩
  · exact ⟨fun z => by omega, fun z => absurd (Or.inl b) z⟩
  · exact ⟨fun z => by omega, fun z => absurd (Or.inr d) z⟩
  · exact ⟨fun _ z => z.elim b d, fun _ => ⟨a, c⟩⟩
theorem tr_luo (H : Rel S X) {o o' : Int} (h : lz (fun o => X 3 o = 0) 24 o) (hu : luo S o') : o = o' :=
  lz_u h hu.1 hu.2.1 ((tr_3 H hu.1 hu.2.1).mpr hu.2.2.1) (fun j h0 h1 q => (tr_3 H h0 (by have := hu.2.1; omega)).mp q (hu.2.2.2 j h0 h1))
theorem tr_lnf (H : Rel S X) {f f' : Int} (h : lz (fun f => X 8 f = 0) 28 f) (hu : lnf S f') : f = f' :=
  lz_u h hu.1 hu.2.1 ((tr_8 H hu.1 hu.2.1).mpr hu.2.2.1) (fun j h0 h1 q => (tr_8 H h0 (by have := hu.2.1; omega)).mp q (hu.2.2.2 j h0 h1))
theorem nm_add {g : Int} (hn : 0 ≤ nn ∧ nn < 4) (h : S 6 nn < 0) (hg : 0 ≤ g) (e : ∀ j, S' 6 j = if j = nn then g else S 6 j) {f : Int} (hf : 0 ≤ f) : cp (fun n => S' 6 n = f) 4 = cp (fun n => S 6 n = f) 4 + (if f = g then 1 else 0) := by
  by_cases q : f = g
  · rw [if_pos q]
    exact cp_add (P := fun n => S 6 n = f) (Q := fun n => S' 6 n = f) 4 hn.1 hn.2 (fun j _ _ z => by rw [e, if_neg z]) (by omega) (by rw [e, if_pos rfl]; exact q.symm)
  · rw [if_neg q, Int.add_zero]
    refine cp_congr 4 (fun j _ _ => ?_)
    rw [e]
    by_cases z : j = nn
    · rw [if_pos z, z]; constructor <;> intro k <;> omega
    · rw [if_neg z]
theorem nm_sub (hn : 0 ≤ nn ∧ nn < 4) (h : 0 ≤ S 6 nn) (e : ∀ j, S' 6 j = if j = nn then -1 else S 6 j) {f : Int} (hf : 0 ≤ f) : cp (fun n => S 6 n = f) 4 = cp (fun n => S' 6 n = f) 4 + (if f = S 6 nn then 1 else 0) :=
  nm_add (S := S') (S' := S) (nn := nn) (g := S 6 nn) hn (by rw [e, if_pos rfl]; omega) h (fun j => by
    rw [e]
    by_cases z : j = nn
    · rw [if_pos z, z]
    · rw [if_neg z, if_neg z]) hf
theorem al_of (h : al S pp) {i z : Int} (hz : 0 ≤ z ∧ z < 6) (hi : i = 6 * pp + z) : ∀ p d : Int, 0 ≤ p → p ≤ 3 → 0 ≤ d → d < 6 → i = 6 * p + d → S 1 p ≠ 0 := fun p d _ _ _ _ e q => by
  have : p = pp := by omega
  rw [this, h.2.2] at q
  omega
theorem tt_open (H : Rel S X) (hx : xq_open X pp nn zx X') (hm : mq_open S pp nn zm S') : zx = zm ∧ Rel S' X' := by
  have H' := H
  obtain ⟨⟨i1, i2, i3, i4, i45, i5, i6, i7, i9, iD, iL, iU⟩, r0, r1, r2, r3, r4, r5, r6, r7, r8, r9, r10, r11, r12, r13, r14, r15⟩ := H'
  have ha := tr_al (pp := pp) H
  by_cases hc : al S pp ∧ 0 ≤ nn ∧ nn ≤ 3
  · have hp : 0 ≤ pp ∧ pp ≤ 3 := ⟨hc.1.1, hc.1.2.1⟩
    have hn7 := r7 nn (by omega) (by omega)
    rcases hm with ⟨m1, -, -⟩ | ⟨m1, m2, rfl, rfl⟩ | ⟨m1, m2, m3, g, q, m4, m5, rfl⟩ | ⟨m1, m2, m3, q, m4, rfl⟩
    · exact absurd hc m1
    · rcases hx with ⟨x1, -, -⟩ | ⟨x1, x2, rfl, rfl⟩ | ⟨x1, x2, x3, f, o, x4, x5, rfl⟩ | ⟨x1, x2, x3, o, x4, rfl⟩
      · exact absurd ⟨ha.mpr hc.1, hc.2⟩ x1
      · exact ⟨rfl, H⟩
      · exact (lfd_n ((tr_lfd H hp (by omega)).mp x2) m2).elim
      · exact (lfd_n ((tr_lfd H hp (by omega)).mp x2) m2).elim
    · rcases hx with ⟨x1, -, -⟩ | ⟨x1, x2, rfl, rfl⟩ | ⟨x1, x2, x3, f, o, x4, x5, rfl⟩ | ⟨x1, x2, x3, o, x4, rfl⟩
      · exact absurd ⟨ha.mpr hc.1, hc.2⟩ x1
      · exact (lfd_n m2 ((tr_nfd H hp (by omega)).mp x2)).elim
      · obtain rfl := lfd_u ((tr_lfd H hp (by omega)).mp x2) m2
        obtain rfl := tr_luo H x5 m5
        obtain rfl := tr_lnf H x4 m4
        refine ⟨rfl, ?_⟩
        have hnf : cp (fun n => S 6 n = f) 4 + fo S f = 0 := by
          have a1 := cp_r (fun n => S 6 n = f) 4
          have a2 : 0 ≤ fo S f ∧ fo S f ≤ 24 := cp_r _ 24
          have := mt isf_cp.mpr m4.2.2.1
          omega
        have H1 : Rel (su (su S 7 f 0) 6 nn f) (su (su (su X 7 nn f) 8 f 1) 9 f 0) := by
          refine stK H (fun j => by simp [su]) (fun j => by simp [su]) (fun j => by simp [su]) (fun j => by simp [su]) (by simp [su]) (fun j => by simp [su]) (fun j => by simp [su]) (fun j => by simp [su]) (fun j => by simp [su]) (fun j => by simp [su]) (fun j => by simp [su]) (fun j => by simp [su]) i5 (rg_su (fun j a b => by rw [su_k (by decide)]; exact i6 j a b) (by have := m4.1; omega) (by have := m4.2.1; omega)) ?_ i9 ?_ r6 ?_ ?_ ?_ r10 r13 r14 r15
          · intro j a b; rw [su_k (by decide)]; exact rg_su i7 (by omega) (by omega) j a b
          · intro j a b g1 g2
            rw [su_k (by decide), su_k (by decide), su_k (by decide), su_n (fun z => m4.2.2.1 (isf_iff.mpr (Or.inr ⟨j, a, b, g2, z, g1⟩)))]
            exact iL j a b g1 g2
          · intro n a b
            rw [su_k (by decide), su_k (by decide)]
            by_cases z : n = nn
            · rw [z, su_s, su_s]
            · rw [su_n z, su_n z, su_k (by decide)]; exact r7 n a b
          · intro k a b
            rw [su_k (by decide), nm_add (S := S) (nn := nn) (g := f) ⟨by omega, by omega⟩ m3 m4.1 (fun j => by simp [su]) a]
            by_cases z : k = f
            · rw [z, su_s, if_pos rfl]; omega
            · rw [su_n z, su_k (by decide), if_neg z, r8 k a b]; omega
          · intro k a b
            by_cases z : k = f
            · simp [su, z]
            · simp [su, z]; exact r9 k a b
        refine stA (i := 6 * pp + zx) (o := o) (s := 0) (w := f) H1 ⟨by have := m2.1; omega, by have := m2.2.1; omega, m2.2.2.1⟩ (al_of (S := su (su S 7 f 0) 6 nn f) (pp := pp) hc.1 ⟨m2.1, m2.2.1⟩ rfl) ⟨m5.1, m5.2.1, m5.2.2.1⟩ (by omega) ⟨m4.1, by have := m4.2.1; omega, fun z => absurd rfl z⟩ (fun z => absurd rfl z)
          (fun j => by simp [su]) (fun j => by simp [su]) (fun j => by simp [su]) (fun j => by simp [su]) (fun j => by simp [su]) (fun j => by simp [su]) (fun j => by simp [su]) (fun j => by simp [su]) (fun j => by simp [su]) (fun j => by simp [su])
          (by simp [su]) (fun j => by simp [su]) (fun j => by simp [su]) (fun j => by simp [su]) (fun j => by simp [su]) (fun j => by simp [su]) (fun j => by simp [su]) (fun j => by simp [su]) (fun j => by by_cases z : j = f <;> simp [su, z]) (fun j => by simp [su]) (fun j => by simp [su]) (fun j => by simp [su]) (fun j => by simp [su]) (fun j => by simp [su]) (fun j => by simp [su]) (fun j => by simp [su])
      · exfalso; omega
    · rcases hx with ⟨x1, -, -⟩ | ⟨x1, x2, rfl, rfl⟩ | ⟨x1, x2, x3, f, o, x4, x5, rfl⟩ | ⟨x1, x2, x3, o, x4, rfl⟩
      · exact absurd ⟨ha.mpr hc.1, hc.2⟩ x1
      · exact (lfd_n m2 ((tr_nfd H hp (by omega)).mp x2)).elim
      · exfalso; omega
      · obtain rfl := lfd_u ((tr_lfd H hp (by omega)).mp x2) m2
        obtain rfl := tr_luo H x4 m4
        refine ⟨rfl, ?_⟩
        have h6 := i6 nn (by omega) (by omega)
        rw [hn7]
        refine stA (i := 6 * pp + zx) (o := o) (s := 0) (w := S 6 nn) H ⟨by have := m2.1; omega, by have := m2.2.1; omega, m2.2.2.1⟩ (al_of (pp := pp) hc.1 ⟨m2.1, m2.2.1⟩ rfl) ⟨m4.1, m4.2.1, m4.2.2.1⟩ (by omega) ⟨by omega, by omega, fun z => absurd rfl z⟩ (fun z => absurd rfl z)
          (fun j => by simp [su]) (fun j => by simp [su]) (fun j => by simp [su]) (fun j => by simp [su]) (fun j => by simp [su]) (fun j => by simp [su]) (fun j => by simp [su]) (fun j => by simp [su]) (fun j => by simp [su]) (fun j => by simp [su])
          (by simp [su]) (fun j => by simp [su]) (fun j => by simp [su]) (fun j => by simp [su]) (fun j => by simp [su]) (fun j => by simp [su]) (fun j => by simp [su]) (fun j => by simp [su]) (fun j => by by_cases z : j = S 6 nn <;> simp [su, z]) (fun j => by simp [su]) (fun j => by simp [su]) (fun j => by simp [su]) (fun j => by simp [su]) (fun j => by simp [su]) (fun j => by simp [su]) (fun j => by simp [su])
  · have hc' : ¬ (al X pp ∧ 0 ≤ nn ∧ nn ≤ 3) := fun z => hc ⟨ha.mp z.1, z.2⟩
    rcases hm with ⟨m1, rfl, rfl⟩ | ⟨m1, -⟩ | ⟨m1, -⟩ | ⟨m1, -⟩
    · rcases hx with ⟨x1, rfl, rfl⟩ | ⟨x1, -⟩ | ⟨x1, -⟩ | ⟨x1, -⟩
      · exact ⟨rfl, H⟩
      · exact absurd x1 hc'
      · exact absurd x1 hc'
      · exact absurd x1 hc'
    · exact absurd m1 hc
    · exact absurd m1 hc
    · exact absurd m1 hc
theorem tt_dup (H : Rel S X) (hx : xq_dup X pp dd zx X') (hm : mq_dup S pp dd zm S') : zx = zm ∧ Rel S' X' := by
  have ha := tr_has (pp := pp) (dd := dd) H
  by_cases hc : hasD S pp dd
  · have hp : 0 ≤ pp ∧ pp ≤ 3 := ⟨hc.1.1, hc.1.2.1⟩
    rcases hm with ⟨m1, -, -⟩ | ⟨m1, m2, rfl, rfl⟩ | ⟨m1, m2, rfl⟩
    · exact absurd hc m1
    · rcases hx with ⟨x1, -, -⟩ | ⟨x1, x2, rfl, rfl⟩ | ⟨x1, x2, rfl⟩
      · exact absurd (ha.mpr hc) x1
      · exact ⟨rfl, H⟩
      · exact (lfd_n ((tr_lfd H hp (by omega)).mp x2) m2).elim
    · rcases hx with ⟨x1, -, -⟩ | ⟨x1, x2, rfl, rfl⟩ | ⟨x1, x2, rfl⟩
      · exact absurd (ha.mpr hc) x1
      · exact (lfd_n m2 ((tr_nfd H hp (by omega)).mp x2)).elim
      · obtain rfl := lfd_u ((tr_lfd H hp (by omega)).mp x2) m2
        refine ⟨rfl, ?_⟩
        have e := tr_2 H hp hc.2.1 (by have := hc.2.2.1; omega)
        have b := H.1.2.1 (6 * pp + dd) (by have := hc.2.1; omega) (by have := hc.2.2.1; omega)
        rw [e]
        exact stC (i := 6 * pp + zx) (o := S 2 (6 * pp + dd)) H ⟨by have := m2.1; omega, by have := m2.2.1; omega, m2.2.2.1⟩ (al_of hc.1 ⟨m2.1, m2.2.1⟩ rfl) ⟨hc.2.2.2, by omega, ⟨6 * pp + dd, by have := hc.2.1; omega, by have := hc.2.2.1; omega, rfl⟩⟩ (fun j => by simp [su]) (fun k j h => su_k h) (fun j _ => by simp [su]) (fun j _ => by by_cases z : j = S 2 (6 * pp + dd) <;> simp [su, z]) (fun k j h1 h2 => by rw [su_k h2, su_k h1])
  · have hc' : ¬ hasD X pp dd := fun z => hc (ha.mp z)
    rcases hm with ⟨m1, rfl, rfl⟩ | ⟨m1, -⟩ | ⟨m1, -⟩
    · rcases hx with ⟨x1, rfl, rfl⟩ | ⟨x1, -⟩ | ⟨x1, -⟩
      · exact ⟨rfl, H⟩
      · exact absurd x1 hc'
      · exact absurd x1 hc'
    · exact absurd m1 hc
    · exact absurd m1 hc
theorem tt_close (H : Rel S X) (hx : xq_close X pp dd zx X') (hm : mq_close S pp dd zm S') : zx = zm ∧ Rel S' X' := by
  have ha := tr_has (pp := pp) (dd := dd) H
  by_cases hc : hasD S pp dd
  · have hp : 0 ≤ pp ∧ pp ≤ 3 := ⟨hc.1.1, hc.1.2.1⟩
    rcases hm with ⟨m1, -, -⟩ | ⟨m1, rfl, rfl⟩
    · exact absurd hc m1
    · rcases hx with ⟨x1, -, -⟩ | ⟨x1, rfl, rfl⟩
      · exact absurd (ha.mpr hc) x1
      · refine ⟨rfl, ?_⟩
        rw [tr_2 H hp hc.2.1 (by have := hc.2.2.1; omega)]
        exact stB H ⟨by have := hc.2.1; omega, by have := hc.2.2.1; omega⟩ rfl hc.2.2.2
  · have hc' : ¬ hasD X pp dd := fun z => hc (ha.mp z)
    rcases hm with ⟨m1, rfl, rfl⟩ | ⟨m1, -⟩
    · rcases hx with ⟨x1, rfl, rfl⟩ | ⟨x1, -⟩
      · exact ⟨rfl, H⟩
      · exact absurd x1 hc'
    · exact absurd m1 hc
theorem tt_link {n1 n2 : Int} (H : Rel S X) (hx : xq_link X n1 n2 zx X') (hm : mq_link S n1 n2 zm S') : zx = zm ∧ Rel S' X' := by
  have H' := H
  obtain ⟨⟨i1, i2, i3, i4, i45, i5, i6, i7, i9, iD, iL, iU⟩, r0, r1, r2, r3, r4, r5, r6, r7, r8, r9, r10, r11, r12, r13, r14, r15⟩ := H'
  by_cases hn : (0 ≤ n1 ∧ n1 ≤ 3) ∧ (0 ≤ n2 ∧ n2 ≤ 3)
  · have a1 := r7 n1 (by omega) (by omega)
    have a2 := r7 n2 (by omega) (by omega)
    have b1 := i6 n1 (by omega) (by omega)
    rcases hm with ⟨m1, rfl, rfl⟩ | ⟨m1, rfl, rfl⟩
    · rcases hx with ⟨x1, rfl, rfl⟩ | ⟨x1, rfl, rfl⟩
      · exact ⟨rfl, H⟩
      · exfalso; omega
    · rcases hx with ⟨x1, rfl, rfl⟩ | ⟨x1, rfl, rfl⟩
      · exfalso; omega
      · refine ⟨rfl, ?_⟩
        rw [a1]
        refine stK H (fun j => by simp [su]) (fun j => by simp [su]) (fun j => by simp [su]) (fun j => by simp [su]) (by simp [su]) (fun j => by simp [su]) (fun j => by simp [su]) (fun j => by simp [su]) (fun j => by simp [su]) (fun j => by simp [su]) (fun j => by simp [su]) (fun j => by simp [su]) i5 (rg_su i6 (by omega) (by omega)) i7 i9 iL r6 ?_ ?_ r9 r10 r13 r14 r15
        · intro n a b
          rw [su_k (by decide)]
          by_cases z : n = n2
          · rw [z, su_s, su_s]
          · rw [su_n z, su_n z]; exact r7 n a b
        · intro k a b
          rw [nm_add (S := S) (nn := n2) (g := S 6 n1) ⟨by omega, by omega⟩ (by omega) (by omega) (fun j => by simp [su]) a]
          by_cases z : k = S 6 n1
          · rw [z, su_s, if_pos rfl, r8 _ (by omega) (by omega)]; omega
          · rw [su_n z, su_k (by decide), if_neg z, r8 k a b]; omega
  · rcases hm with ⟨m1, rfl, rfl⟩ | ⟨m1, rfl, rfl⟩
    · rcases hx with ⟨x1, rfl, rfl⟩ | ⟨x1, rfl, rfl⟩
      · exact ⟨rfl, H⟩
      · exact absurd ⟨x1.1, x1.2.1⟩ hn
    · exact absurd ⟨m1.1, m1.2.1⟩ hn
theorem tt_unlink (H : Rel S X) (hx : xq_unlink X nn zx X') (hm : mq_unlink S nn zm S') : zx = zm ∧ Rel S' X' := by
  have H' := H
  obtain ⟨⟨i1, i2, i3, i4, i45, i5, i6, i7, i9, iD, iL, iU⟩, r0, r1, r2, r3, r4, r5, r6, r7, r8, r9, r10, r11, r12, r13, r14, r15⟩ := H'
  by_cases hn : 0 ≤ nn ∧ nn ≤ 3
  · have a1 := r7 nn (by omega) (by omega)
    have b1 := i6 nn (by omega) (by omega)
    rcases hm with ⟨m1, rfl, rfl⟩ | ⟨m1, rfl, rfl⟩
    · rcases hx with ⟨x1, rfl, rfl⟩ | ⟨x1, rfl, rfl⟩
      · exact ⟨rfl, H⟩
      · exfalso; omega
    · rcases hx with ⟨x1, rfl, rfl⟩ | ⟨x1, rfl, rfl⟩
      · exfalso; omega
      · refine ⟨rfl, ?_⟩
        rw [a1]
        refine stK H (fun j => by simp [su]) (fun j => by simp [su]) (fun j => by simp [su]) (fun j => by simp [su]) (by simp [su]) (fun j => by simp [su]) (fun j => by simp [su]) (fun j => by simp [su]) (fun j => by simp [su]) (fun j => by simp [su]) (fun j => by simp [su]) (fun j => by simp [su]) i5 (rg_su i6 (by omega) (by omega)) i7 i9 iL r6 ?_ ?_ r9 r10 r13 r14 r15
        · intro n a b
          by_cases z : n = nn
          · rw [z, su_s, su_s]
          · rw [su_n z, su_n z, su_k (by decide)]; exact r7 n a b
        · intro k a b
          have e := nm_sub (S := S) (S' := su S 6 nn (-1)) (nn := nn) ⟨by omega, by omega⟩ (by omega) (fun j => by simp [su]) a
          rw [su_k (by decide)]
          by_cases z : k = S 6 nn
          · rw [if_pos z] at e
            rw [z, su_s, ← z, r8 k a b]; omega
          · rw [if_neg z] at e
            rw [su_n z, r8 k a b]; omega
  · rcases hm with ⟨m1, rfl, rfl⟩ | ⟨m1, rfl, rfl⟩
    · rcases hx with ⟨x1, rfl, rfl⟩ | ⟨x1, rfl, rfl⟩
      · exact ⟨rfl, H⟩
      · exact absurd x1.1 hn
    · exact absurd m1.1 hn
theorem tt_counts (H : Rel S X) (hx : xq_counts X zx X') (hm : mq_counts S zm S') : zx = zm ∧ Rel S' X' := by
  obtain ⟨rfl, rfl⟩ := hx
  obtain ⟨rfl, rfl⟩ := hm
  refine ⟨?_, H⟩
  have b3 := H.2.2.2.2.1
  have b8 := H.2.2.2.2.2.2.2.2.2.1
  have e1 : cp (fun o => 0 < X 3 o) 24 = cp (opd S) 24 := cp_congr 24 (fun o h0 h1 => by rw [opd_cp, ← b3 o h0 h1])
  have e2 : cp (fun f => 0 < X 8 f) 28 = cp (isf S) 28 := cp_congr 28 (fun f h0 h1 => by rw [isf_cp, ← b8 f h0 h1])
  have e3 : cp (fun q => X 11 q ≠ 0 ∨ X 12 q ≠ 0) 24 = cp (hop S 3) 24 := cp_congr 24 (fun q h0 h1 => by
    have := tr_pq H h0 h1
    constructor
    · intro z; exact Classical.byContradiction fun k => by have := this.mpr k; omega
    · intro z; exact Classical.byContradiction fun k => (this.mp (by omega)) z)
  rw [e1, e2, e3]
theorem tr_o (H : Rel S X) (hc : hasD S pp dd) : ∃ o, S 2 (6 * pp + dd) = o ∧ X 2 (6 * pp + dd) = o ∧ 0 ≤ o ∧ o < 24 ∧ opd S o ∧ X 4 o = S 3 o + 1 ∧ X 5 o = S 4 o ∧ X 6 o = S 5 o ∧ (0 ≤ S 3 o ∧ S 3 o ≤ 2) ∧ (0 ≤ S 4 o ∧ S 4 o ≤ 27) ∧ (0 ≤ S 5 o ∧ S 5 o ≤ 8) ∧ (S 3 o ≠ 0 → S 4 o ≤ 23) ∧ (S 3 o = 0 → S 5 o ≤ S 7 (S 4 o)) := by
  have H' := H
  obtain ⟨⟨i1, i2, i3, i4, i45, i5, i6, i7, i9, iD, iL, iU⟩, r0, r1, r2, r3, r4, r5, r6, -⟩ := H'
  have h1 := hc.2.1
  have h2 := hc.2.2.1
  have hp : 0 ≤ pp ∧ pp ≤ 3 := ⟨hc.1.1, hc.1.2.1⟩
  have h3 := hc.2.2.2
  have b := i2 (6 * pp + dd) (by omega) (by omega)
  have ho : opd S (S 2 (6 * pp + dd)) := ⟨6 * pp + dd, by omega, by omega, rfl⟩
  exact ⟨_, rfl, tr_2 H hp h1 (by omega), h3, by omega, ho, (r4 _ h3 (by omega)).resolve_right (fun z => z.2.1 ho), r5 _ h3 (by omega), r6 _ h3 (by omega), i3 _ h3 (by omega), i4 _ h3 (by omega), i5 _ h3 (by omega), i45 _ h3 (by omega), iL _ h3 (by omega) ho⟩
theorem tt_seek {ff : Int} (H : Rel S X) (hx : xq_seek X pp dd ff zx X') (hm : mq_seek S pp dd ff zm S') : zx = zm ∧ Rel S' X' := by
  have H' := H
  obtain ⟨⟨i1, i2, i3, i4, i45, i5, i6, i7, i9, iD, iL, iU⟩, r0, r1, r2, r3, r4, r5, r6, r7, r8, r9, r10, r11, r12, r13, r14, r15⟩ := H'
  have ha := tr_has (pp := pp) (dd := dd) H
  by_cases hc : hasD S pp dd
  · have hc' := ha.mpr hc
    obtain ⟨o, o1, o2, o3, o4, o5, o6, o7, o8, o9, o10, o11, o12, o13⟩ := tr_o H hc
    have e9 := r9 (S 4 o) o10.1 (by omega)
    have b7 := i7 (S 4 o) o10.1 (by omega)
    unfold xq_seek at hx
    unfold mq_seek at hm
    rw [o2, o7] at hx
    rw [o1] at hm
    rcases hm with ⟨m1, rfl, rfl⟩ | ⟨m1, rfl, rfl⟩
    · rcases hx with ⟨x1, rfl, rfl⟩ | ⟨x1, rfl, rfl⟩
      · exact ⟨rfl, H⟩
      · exact absurd ⟨hc, by omega, by omega, by omega⟩ m1
    · rcases hx with ⟨x1, rfl, rfl⟩ | ⟨x1, rfl, rfl⟩
      · exact absurd ⟨hc', by omega, by omega, by omega⟩ x1
      · refine ⟨rfl, ?_⟩
        refine stK H (fun j => by simp [su]) (fun j => by simp [su]) (fun j => by simp [su]) (fun j => by simp [su]) (by simp [su]) (fun j => by simp [su]) (fun j => by simp [su]) (fun j => by simp [su]) (fun j => by simp [su]) (fun j => by simp [su]) (fun j => by simp [su]) (fun j => by simp [su]) (rg_su i5 (by omega) (by omega)) i6 i7 i9 ?_ ?_ r7 r8 r9 r10 r13 r14 r15
        · intro k a b g1 g2
          rw [su_k (k' := 7) (by decide)]
          by_cases z : k = o
          · rw [z, su_s]; omega
          · rw [su_n z]; exact iL k a b g1 g2
        · intro k a b
          by_cases z : k = o
          · rw [z, su_s, su_s]
          · rw [su_n z, su_n z]; exact r6 k a b
  · have hc' : ¬ hasD X pp dd := fun z => hc (ha.mp z)
    rcases hm with ⟨m1, rfl, rfl⟩ | ⟨m1, -⟩
    · rcases hx with ⟨x1, rfl, rfl⟩ | ⟨x1, -⟩
      · exact ⟨rfl, H⟩
      · exact absurd x1.1 hc'
    · exact absurd m1.1 hc
end OPS1
end
section
/-! plain: one theorem an operation (second half): bytes; what the contracts ask of the two states -/
section OPS2
variable {S X S' X' : oS} {pp dd nn zx zm : Int}
theorem su_v {X : oS} {k : Nat} {i v j : Int} : su X k i v k j = if j = i then v else X k j := by
  by_cases g : j = i
  · rw [if_pos g, g, su_s]
  · rw [if_neg g, su_n g]
/-- the class's numbers keep their bounds -/
theorem bX (H : Rel S X) : (0 ≤ X 0 0 ∧ X 0 0 ≤ 4) ∧ rg X 1 4 0 1 ∧ rg X 2 24 (-1) 23 ∧ rg X 3 24 0 24 ∧ rg X 4 24 0 3 ∧ rg X 5 24 0 27 ∧ rg X 6 24 0 8 ∧ rg X 7 4 (-1) 27 ∧ rg X 8 28 0 30 ∧ rg X 9 28 0 8 ∧ rg X 11 24 0 1 ∧ rg X 12 24 0 1 ∧ rg X 13 24 0 5 ∧ rg X 14 24 0 6 ∧ ∀ i, 0 ≤ i → i < 24 → X 4 i ≠ 1 → X 5 i ≤ 23 := by
  obtain ⟨⟨i1, i2, i3, i4, i45, i5, i6, i7, i9, iD, iL, iU⟩, r0, r1, r2, r3, r4, r5, r6, r7, r8, r9, r10, r11, r12, r13, r14, r15⟩ := H
  refine ⟨?_, ?_, ?_, ?_, ?_, ?_, ?_, ?_, ?_, ?_, ?_, ?_, r13, ?_, ?_⟩
  · rw [r0]; exact cp_r _ 4
  · intro i a b; rw [r1 i a b]; exact i1 i a b
  · intro i a b; rw [r2 i a b]; exact i2 i a b
  · intro i a b; rw [r3 i a b]; exact cp_r _ 24
  · intro i a b
    have := i3 i a b
    rcases r4 i a b with g | g
    · omega
    · have := g.1; omega
  · intro i a b; rw [r5 i a b]; exact i4 i a b
  · intro i a b; rw [r6 i a b]; exact i5 i a b
  · intro i a b; rw [r7 i a b]; exact i6 i a b
  · intro i a b
    have a1 := cp_r (fun n => S 6 n = i) 4
    have a2 : 0 ≤ fo S i ∧ fo S i ≤ 24 := cp_r _ 24
    rw [r8 i a b]
    omega
  · intro i a b; rw [r9 i a b]; exact i7 i a b
  · intro i a b
    rcases r11 i a b with g | g
    · have := g.1; omega
    · have := g.1; omega
  · intro i a b
    rcases r12 i a b with g | g
    · have := g.1; omega
    · have := g.1; omega
  · intro i a b; rw [r14 i a b]; exact i9 i a b
  · intro i a b g
    rw [r5 i a b]
    rcases r4 i a b with q | q
    · exact i45 i a b (by omega)
    · exact q.2.2
/-- a byte into a file -/
theorem tt_wf {o v : Int} (H : Rel S X) (h0 : 0 ≤ o) (h1 : o < 24) (ho : opd S o) (hs : S 3 o = 0) (hx : xq_writeFile X o v zx X') (hm : mq_wf S o v zm S') : zx = zm ∧ Rel S' X' := by
  have H' := H
  obtain ⟨⟨i1, i2, i3, i4, i45, i5, i6, i7, i9, iD, iL, iU⟩, r0, r1, r2, r3, r4, r5, r6, r7, r8, r9, r10, r11, r12, r13, r14, r15⟩ := H'
  have b4 := i4 o h0 h1
  have b5 := i5 o h0 h1
  have bL := iL o h0 h1 ho hs
  have b7 := i7 (S 4 o) (by omega) (by omega)
  have e9 := r9 (S 4 o) (by omega) (by omega)
  unfold xq_writeFile at hx
  unfold mq_wf at hm
  rw [r5 o h0 h1, r6 o h0 h1, e9] at hx
  rcases hm with ⟨m1, rfl, rfl⟩ | ⟨m1, m2, rfl, rfl⟩ | ⟨m1, m2, rfl, rfl⟩
  · rcases hx with ⟨x1, rfl, rfl⟩ | ⟨x1, x2, rfl, rfl⟩ | ⟨x1, x2, rfl, rfl⟩
    · exact ⟨rfl, H⟩
    · exfalso; omega
    · exfalso; omega
  · rcases hx with ⟨x1, rfl, rfl⟩ | ⟨x1, x2, rfl, rfl⟩ | ⟨x1, x2, rfl, rfl⟩
    · exfalso; omega
    · refine ⟨rfl, ?_⟩
      refine stK H (fun j => by simp [su]) (fun j => by simp [su]) (fun j => by simp [su]) (fun j => by simp [su]) (by simp [su]) (fun j => by simp [su]) (fun j => by simp [su]) (fun j => by simp [su]) (fun j => by simp [su]) (fun j => by simp [su]) (fun j => by simp [su]) (fun j => by simp [su]) (rg_su i5 (by omega) (by omega)) i6 ?_ i9 ?_ ?_ r7 r8 ?_ ?_ r13 r14 r15
      · intro k a b
        rw [su_k (by decide), su_v, su_k (k' := 7) (by decide)]
        have := i7 k a b
        split <;> omega
      · intro k a b g1 g2
        have q := iL k a b g1 g2
        rw [su_v, su_k (k' := 5) (by decide), su_k (k' := 5) (by decide), su_k (k' := 7) (by decide), su_v, su_k (k' := 7) (by decide)]
        by_cases z : k = o
        · rw [if_pos z, z, if_pos rfl]; omega
        · rw [if_neg z]
          split
          · rename_i z2
            rw [z2] at q
            omega
          · exact q
      · intro k a b
        rw [su_k (k' := 6) (by decide), su_v, su_k (k' := 6) (by decide), su_v, su_k (k' := 5) (by decide), su_k (k' := 5) (by decide), r6 k a b]
      · intro k a b
        rw [su_v, su_k (k' := 9) (by decide), su_k (k' := 9) (by decide), su_k (k' := 7) (by decide), su_v, su_k (k' := 7) (by decide), r9 k a b]
        by_cases z : k = S 4 o
        · rw [if_pos z, if_pos z]; omega
        · rw [if_neg z, if_neg z]
      · intro k a b
        rw [su_k (k' := 10) (by decide), su_k (k' := 10) (by decide), su_v, su_k (k' := 8) (by decide), su_k (k' := 8) (by decide), su_v, r10 k a b]
    · exfalso; omega
  · rcases hx with ⟨x1, rfl, rfl⟩ | ⟨x1, x2, rfl, rfl⟩ | ⟨x1, x2, rfl, rfl⟩
    · exfalso; omega
    · exfalso; omega
    · refine ⟨rfl, ?_⟩
      refine stK H (fun j => by simp [su]) (fun j => by simp [su]) (fun j => by simp [su]) (fun j => by simp [su]) (by simp [su]) (fun j => by simp [su]) (fun j => by simp [su]) (fun j => by simp [su]) (fun j => by simp [su]) (fun j => by simp [su]) (fun j => by simp [su]) (fun j => by simp [su]) (rg_su i5 (by omega) (by omega)) i6 i7 i9 ?_ ?_ r7 r8 r9 ?_ r13 r14 r15
      · intro k a b g1 g2
        have q := iL k a b g1 g2
        rw [su_v, su_k (k' := 5) (by decide), su_k (k' := 7) (by decide), su_k (k' := 7) (by decide)]
        by_cases z : k = o
        · rw [if_pos z, z]; omega
        · rw [if_neg z]; exact q
      · intro k a b
        rw [su_v, su_k (k' := 6) (by decide), su_v, su_k (k' := 5) (by decide), r6 k a b]
      · intro k a b
        rw [su_k (k' := 10) (by decide), su_v, su_k (k' := 8) (by decide), su_v, r10 k a b]
/-- a byte out of a file -/
theorem tt_rf {o : Int} (H : Rel S X) (h0 : 0 ≤ o) (h1 : o < 24) (ho : opd S o) (hs : S 3 o = 0) (hx : xq_readFile X o zx X') (hm : mq_rf S o zm S') : zx = zm ∧ Rel S' X' := by
  have H' := H
  obtain ⟨⟨i1, i2, i3, i4, i45, i5, i6, i7, i9, iD, iL, iU⟩, r0, r1, r2, r3, r4, r5, r6, r7, r8, r9, r10, r11, r12, r13, r14, r15⟩ := H'
  have b4 := i4 o h0 h1
  have b5 := i5 o h0 h1
  have bL := iL o h0 h1 ho hs
  have b7 := i7 (S 4 o) (by omega) (by omega)
  have e9 := r9 (S 4 o) (by omega) (by omega)
  unfold xq_readFile at hx
  unfold mq_rf at hm
  rw [r5 o h0 h1, r6 o h0 h1, e9] at hx
  rcases hm with ⟨m1, rfl, rfl⟩ | ⟨m1, rfl, rfl⟩
  · rcases hx with ⟨x1, rfl, rfl⟩ | ⟨x1, rfl, rfl⟩
    · exact ⟨rfl, H⟩
    · exfalso; omega
  · rcases hx with ⟨x1, rfl, rfl⟩ | ⟨x1, rfl, rfl⟩
    · exfalso; omega
    · refine ⟨?_, ?_⟩
      · rw [r10 _ (by omega) (by omega)]
        congr 1
        omega
      · refine stK H (fun j => by simp [su]) (fun j => by simp [su]) (fun j => by simp [su]) (fun j => by simp [su]) (by simp [su]) (fun j => by simp [su]) (fun j => by simp [su]) (fun j => by simp [su]) (fun j => by simp [su]) (fun j => by simp [su]) (fun j => by simp [su]) (fun j => by simp [su]) (rg_su i5 (by omega) (by omega)) i6 i7 i9 ?_ ?_ r7 r8 r9 r10 r13 r14 r15
        · intro k a b g1 g2
          have q := iL k a b g1 g2
          rw [su_v, su_k (k' := 7) (by decide)]
          by_cases z : k = o
          · rw [if_pos z, z]; omega
          · rw [if_neg z]; exact q
        · intro k a b
          rw [su_v, su_v, r6 k a b]
theorem tr_11 (H : Rel S X) {q : Int} (h0 : 0 ≤ q) (h1 : q < 24) : X 11 q = 0 ↔ ¬ hop S 1 q := by
  have r11 := H.2.2.2.2.2.2.2.2.2.2.2.2.1 q h0 h1
  rw [hop_rd (by omega)]
  rcases r11 with ⟨a, b⟩ | ⟨a, b⟩
  · exact ⟨fun z => by omega, fun z => absurd b z⟩
  · exact ⟨fun _ => b, fun _ => a⟩
theorem tr_12 (H : Rel S X) {q : Int} (h0 : 0 ≤ q) (h1 : q < 24) : X 12 q = 0 ↔ ¬ hop S 2 q := by
  have r12 := H.2.2.2.2.2.2.2.2.2.2.2.2.2.1 q h0 h1
  rw [hop_rd (by omega)]
  rcases r12 with ⟨a, b⟩ | ⟨a, b⟩
  · exact ⟨fun z => by omega, fun z => absurd b z⟩
  · exact ⟨fun _ => b, fun _ => a⟩
/-- a byte into a pipe -/
theorem tt_wp {w v : Int} (H : Rel S X) (h0 : 0 ≤ w) (h1 : w < 24) (hx : xq_writePipe X w v zx X') (hm : mq_wp S w v zm S') : zx = zm ∧ Rel S' X' := by
  have H' := H
  obtain ⟨⟨i1, i2, i3, i4, i45, i5, i6, i7, i9, iD, iL, iU⟩, r0, r1, r2, r3, r4, r5, r6, r7, r8, r9, r10, r11, r12, r13, r14, r15⟩ := H'
  have b9 := i9 w h0 h1
  have b13 := r13 w h0 h1
  have e11 := tr_11 H h0 h1
  unfold xq_writePipe at hx
  unfold mq_wp at hm
  rw [r14 w h0 h1] at hx
  have key : ∀ p : Int, S 9 w ≠ 6 → ((X 13 w + S 9 w < 6 ∧ p = X 13 w + S 9 w) ∨ (6 ≤ X 13 w + S 9 w ∧ p = X 13 w + S 9 w - 6)) → Rel (su (su S 10 (6 * w + S 9 w) v) 9 w (S 9 w + 1)) (su (su X 15 (6 * w + p) v) 14 w (S 9 w + 1)) := by
    intro p hn hp
    refine stK H (fun j => by simp [su]) (fun j => by simp [su]) (fun j => by simp [su]) (fun j => by simp [su]) (by simp [su]) (fun j => by simp [su]) (fun j => by simp [su]) (fun j => by simp [su]) (fun j => by simp [su]) (fun j => by simp [su]) (fun j => by simp [su]) (fun j => by simp [su]) i5 i6 i7 (rg_su i9 (by omega) (by omega)) iL r6 r7 r8 r9 r10 r13 ?_ ?_
    · intro k a b
      rw [su_v, su_v, su_k (k' := 14) (by decide), su_k (k' := 9) (by decide), r14 k a b]
    · intro q j a b c d
      have g13 := r13 q a b
      have g9 := i9 q a b
      rw [su_v, su_k (k' := 9) (by decide)] at d
      rw [su_k (k' := 13) (by decide), su_k (k' := 13) (by decide), su_k (k := 14) (k' := 15) (by decide), su_k (k := 14) (k' := 15) (by decide), su_k (k' := 10) (by decide), su_v, su_v, su_v]
      by_cases z : q = w
      · subst z
        rw [if_pos rfl] at d
        by_cases y : j = S 9 q
        · subst y
          rw [if_pos rfl]
          refine ⟨fun g => ?_, fun g => ?_⟩
          · rw [if_pos (by omega)]
          · rw [if_pos (by omega)]
        · have old := r15 q j a b c (by omega)
          rw [if_neg (show ¬ 6 * q + j = 6 * q + S 9 q by omega)]
          refine ⟨fun g => ?_, fun g => ?_⟩
          · rw [if_neg (by omega)]; exact old.1 g
          · rw [if_neg (by omega)]; exact old.2 g
      · rw [if_neg z] at d
        have old := r15 q j a b c d
        rw [if_neg (show ¬ 6 * q + j = 6 * w + S 9 w by omega)]
        refine ⟨fun g => ?_, fun g => ?_⟩
        · rw [if_neg (by omega)]; exact old.1 g
        · rw [if_neg (by omega)]; exact old.2 g
  rcases hm with ⟨m1, rfl, rfl⟩ | ⟨m1, m2, rfl, rfl⟩ | ⟨m1, m2, rfl, rfl⟩
  · have e := e11.mpr m1
    rcases hx with ⟨x1, rfl, rfl⟩ | ⟨x1, x2, rfl, rfl⟩ | ⟨x1, x2, x3, rfl, rfl⟩ | ⟨x1, x2, x3, rfl, rfl⟩
    · exact ⟨rfl, H⟩
    · exact absurd e x1
    · exact absurd e x1
    · exact absurd e x1
  · rcases hx with ⟨x1, rfl, rfl⟩ | ⟨x1, x2, rfl, rfl⟩ | ⟨x1, x2, x3, rfl, rfl⟩ | ⟨x1, x2, x3, rfl, rfl⟩
    · exact absurd m1 (e11.mp x1)
    · exact ⟨rfl, H⟩
    · exact absurd m2 x2
    · exact absurd m2 x2
  · rcases hx with ⟨x1, rfl, rfl⟩ | ⟨x1, x2, rfl, rfl⟩ | ⟨x1, x2, x3, rfl, rfl⟩ | ⟨x1, x2, x3, rfl, rfl⟩
    · exact absurd m1 (e11.mp x1)
    · exact absurd x2 m2
    · exact ⟨rfl, key _ m2 (Or.inl ⟨x3, rfl⟩)⟩
    · exact ⟨rfl, key _ m2 (Or.inr ⟨x3, rfl⟩)⟩
theorem msh_k {S : oS} {w n j : Int} {k : Nat} (h : k ≠ 10) : msh S w n k j = S k j := by
  unfold msh; rw [if_neg (fun z => h z.1)]
/-- a byte out of a pipe -/
theorem tt_rp {w : Int} (H : Rel S X) (h0 : 0 ≤ w) (h1 : w < 24) (hx : xq_readPipe X w zx X') (hm : mq_rp S w zm S') : zx = zm ∧ Rel S' X' := by
  have H' := H
  obtain ⟨⟨i1, i2, i3, i4, i45, i5, i6, i7, i9, iD, iL, iU⟩, r0, r1, r2, r3, r4, r5, r6, r7, r8, r9, r10, r11, r12, r13, r14, r15⟩ := H'
  have b9 := i9 w h0 h1
  have b13 := r13 w h0 h1
  have e12 := tr_12 H h0 h1
  unfold xq_readPipe at hx
  unfold mq_rp at hm
  rw [r14 w h0 h1] at hx
  have key : ∀ p : Int, S 9 w ≠ 0 → ((X 13 w = 5 ∧ p = 0) ∨ (X 13 w ≠ 5 ∧ p = X 13 w + 1)) → X 15 (6 * w + X 13 w) = S 10 (6 * w) ∧ Rel (msh (su S 9 w (S 9 w - 1)) w (S 9 w - 1)) (su (su X 13 w p) 14 w (S 9 w - 1)) := by
    intro p hn hp
    refine ⟨?_, ?_⟩
    · have := (r15 w 0 h0 h1 (by omega) (by omega)).1 (by omega)
      rw [Int.add_zero, Int.add_zero] at this
      exact this
    · refine stK H (fun j => by rw [msh_k (by decide)]; simp [su]) (fun j => by rw [msh_k (by decide)]; simp [su]) (fun j => by rw [msh_k (by decide)]; simp [su]) (fun j => by rw [msh_k (by decide)]; simp [su]) (by simp [su]) (fun j => by simp [su]) (fun j => by simp [su]) (fun j => by simp [su]) (fun j => by simp [su]) (fun j => by simp [su]) (fun j => by simp [su]) (fun j => by simp [su]) ?_ ?_ ?_ ?_ ?_ ?_ ?_ ?_ ?_ ?_ ?_ ?_ ?_
      · intro j a b; rw [msh_k (by decide), su_k (by decide)]; exact i5 j a b
      · intro j a b; rw [msh_k (by decide), su_k (by decide)]; exact i6 j a b
      · intro j a b; rw [msh_k (by decide), su_k (by decide)]; exact i7 j a b
      · intro j a b; rw [msh_k (by decide)]; exact rg_su i9 (by omega) (by omega) j a b
      · intro j a b g1 g2; rw [msh_k (by decide), msh_k (by decide), su_k (by decide), su_k (by decide)]; exact iL j a b g1 g2
      · intro j a b; rw [msh_k (by decide), su_k (by decide), su_k (by decide), su_k (by decide)]; exact r6 j a b
      · intro j a b; rw [msh_k (by decide), su_k (by decide), su_k (by decide), su_k (by decide)]; exact r7 j a b
      · intro j a b
        rw [su_k (by decide), su_k (by decide), r8 j a b]
        congr 1
      · intro j a b; rw [msh_k (by decide), su_k (by decide), su_k (by decide), su_k (by decide)]; exact r9 j a b
      · intro j a b; rw [msh_k (by decide), su_k (by decide), su_k (by decide), su_k (by decide)]; exact r10 j a b
      · intro j a b
        rw [su_k (by decide), su_v]
        have := r13 j a b
        split <;> omega
      · intro j a b
        rw [msh_k (by decide), su_v, su_v, su_k (k' := 14) (by decide), r14 j a b]
      · intro q j a b c d
        have g13 := r13 q a b
        have g9 := i9 q a b
        rw [msh_k (by decide), su_v] at d
        rw [su_k (k' := 13) (by decide), su_v, su_k (k' := 15) (by decide), su_k (k' := 15) (by decide), su_k (k' := 15) (by decide), su_k (k' := 15) (by decide)]
        unfold msh
        by_cases z : q = w
        · subst z
          rw [if_pos rfl] at d
          rw [if_pos rfl, if_pos ⟨rfl, by omega, by omega⟩, su_k (by decide)]
          have old := r15 q (j + 1) a b (by omega) (by omega)
          rw [show 6 * q + j + 1 = 6 * q + (j + 1) by omega]
          refine ⟨fun g => ?_, fun g => ?_⟩
          · rcases hp with ⟨y1, y2⟩ | ⟨y1, y2⟩
            · rw [← old.2 (by omega)]
              congr 1
              omega
            · rw [← old.1 (by omega)]
              congr 1
              omega
          · rcases hp with ⟨y1, y2⟩ | ⟨y1, y2⟩
            · exfalso; omega
            · rw [← old.2 (by omega)]
              congr 1
              omega
        · rw [if_neg z] at d
          rw [if_neg z, su_k (by decide), if_neg (fun y => by omega), su_k (by decide)]
          exact r15 q j a b c d
  rcases hm with ⟨m1, m2, rfl, rfl⟩ | ⟨m1, m2, rfl, rfl⟩ | ⟨m1, rfl, rfl⟩
  · rcases hx with ⟨x1, x2, rfl, rfl⟩ | ⟨x1, x2, rfl, rfl⟩ | ⟨x1, x2, rfl, rfl⟩ | ⟨x1, x2, rfl, rfl⟩
    · exact ⟨rfl, H⟩
    · exact absurd m2 (e12.mp x2)
    · exact absurd m1 x1
    · exact absurd m1 x1
  · rcases hx with ⟨x1, x2, rfl, rfl⟩ | ⟨x1, x2, rfl, rfl⟩ | ⟨x1, x2, rfl, rfl⟩ | ⟨x1, x2, rfl, rfl⟩
    · exact absurd (e12.mpr m2) x2
    · exact ⟨rfl, H⟩
    · exact absurd m1 x1
    · exact absurd m1 x1
  · rcases hx with ⟨x1, x2, rfl, rfl⟩ | ⟨x1, x2, rfl, rfl⟩ | ⟨x1, x2, rfl, rfl⟩ | ⟨x1, x2, rfl, rfl⟩
    · exact absurd x1 m1
    · exact absurd x1 m1
    · exact key _ m1 (Or.inl ⟨x2, rfl⟩)
    · exact key _ m1 (Or.inr ⟨x2, rfl⟩)
theorem tt_write {vv : Int} (H : Rel S X) (hx : xq_write X pp dd vv zx X') (hm : mq_write S pp dd vv zm S') : zx = zm ∧ Rel S' X' := by
  have ha := tr_has (pp := pp) (dd := dd) H
  by_cases hc : hasD S pp dd
  · have hc' := ha.mpr hc
    obtain ⟨o, o1, o2, o3, o4, o5, o6, o7, o8, o9, o10, o11, o12, o13⟩ := tr_o H hc
    unfold xq_write at hx
    unfold mq_write at hm
    rw [o2, o7] at hx
    rw [o1] at hm
    rcases hm with ⟨m1, rfl, rfl⟩ | ⟨m0, m1, m2⟩ | ⟨m0, m1, m2, m3⟩
    · have m1 : S 3 o = 1 := Classical.byContradiction fun z => m1 ⟨hc, z⟩
      rcases hx with ⟨x1, rfl, rfl⟩ | ⟨x0, x1, x2⟩ | ⟨x0, x1, x2, x3⟩
      · exact ⟨rfl, H⟩
      · exfalso; omega
      · exfalso; omega
    · rcases hx with ⟨x1, rfl, rfl⟩ | ⟨x0, x1, x2⟩ | ⟨x0, x1, x2, x3⟩
      · exact absurd ⟨hc', by omega⟩ x1
      · exfalso; omega
      · exact tt_wp H o10.1 (by have := o12 (by omega); omega) x3 m2
    · rcases hx with ⟨x1, rfl, rfl⟩ | ⟨x0, x1, x2⟩ | ⟨x0, x1, x2, x3⟩
      · exact absurd ⟨hc', by omega⟩ x1
      · exact tt_wf H o3 o4 o5 (by omega) x2 m3
      · exfalso; omega
  · have hc' : ¬ hasD X pp dd := fun z => hc (ha.mp z)
    rcases hm with ⟨m1, rfl, rfl⟩ | ⟨m1, -⟩ | ⟨m1, -⟩
    · rcases hx with ⟨x1, rfl, rfl⟩ | ⟨x1, -⟩ | ⟨x1, -⟩
      · exact ⟨rfl, H⟩
      · exact absurd x1 hc'
      · exact absurd x1 hc'
    · exact absurd m1 hc
    · exact absurd m1 hc
theorem tt_read (H : Rel S X) (hx : xq_read X pp dd zx X') (hm : mq_read S pp dd zm S') : zx = zm ∧ Rel S' X' := by
  have ha := tr_has (pp := pp) (dd := dd) H
  by_cases hc : hasD S pp dd
  · have hc' := ha.mpr hc
    obtain ⟨o, o1, o2, o3, o4, o5, o6, o7, o8, o9, o10, o11, o12, o13⟩ := tr_o H hc
    unfold xq_read at hx
    unfold mq_read at hm
    rw [o2, o7] at hx
    rw [o1] at hm
    rcases hm with ⟨m1, rfl, rfl⟩ | ⟨m0, m1, m2⟩ | ⟨m0, m1, m2, m3⟩
    · have m1 : S 3 o = 2 := Classical.byContradiction fun z => m1 ⟨hc, z⟩
      rcases hx with ⟨x1, rfl, rfl⟩ | ⟨x0, x1, x2⟩ | ⟨x0, x1, x2, x3⟩
      · exact ⟨rfl, H⟩
      · exfalso; omega
      · exfalso; omega
    · rcases hx with ⟨x1, rfl, rfl⟩ | ⟨x0, x1, x2⟩ | ⟨x0, x1, x2, x3⟩
      · exact absurd ⟨hc', by omega⟩ x1
      · exfalso; omega
      · exact tt_rp H o10.1 (by have := o12 (by omega); omega) x3 m2
    · rcases hx with ⟨x1, rfl, rfl⟩ | ⟨x0, x1, x2⟩ | ⟨x0, x1, x2, x3⟩
      · exact absurd ⟨hc', by omega⟩ x1
      · exact tt_rf H o3 o4 o5 (by omega) x2 m3
      · exfalso; omega
  · have hc' : ¬ hasD X pp dd := fun z => hc (ha.mp z)
    rcases hm with ⟨m1, rfl, rfl⟩ | ⟨m1, -⟩ | ⟨m1, -⟩
    · rcases hx with ⟨x1, rfl, rfl⟩ | ⟨x1, -⟩ | ⟨x1, -⟩
      · exact ⟨rfl, H⟩
      · exact absurd x1 hc'
      · exact absurd x1 hc'
    · exact absurd m1 hc
    · exact absurd m1 hc
end OPS2
end
section
/-! plain: one theorem an operation (third part): pipe, fork, exit; the first states -/
section OPS3
variable {S X S' X' : oS} {pp dd nn zx zm : Int}
theorem mfc_0 (h : nfd S pp 0) : mfc S pp < 2 := by
  have e : mfc S pp = 0 := cp_0 6 (fun i a b g => by have := h i a (by omega); omega)
  omega
theorem mfc_1 {r : Int} (h : lfd S pp 0 r) (h' : nfd S pp (r + 1)) : mfc S pp < 2 := by
  have e : mfc S pp ≤ 1 := cp_le1 (r := r) (fun i a b g => by
    rcases Int.lt_trichotomy i r with q | q | q
    · have := h.2.2.2 i a q; omega
    · exact q
    · have := h' i (by omega) (by omega); omega)
  omega
theorem mfc_2 {r w : Int} (h : lfd S pp 0 r) (h' : lfd S pp (r + 1) w) : 2 ≤ mfc S pp :=
  cp_ge2 (i := r) (j := w) h.1 (by have := h.2.1; omega) h.2.2.1 (by have := h.1; have := h'.1; omega) (by have := h'.2.1; omega) h'.2.2.1 (by have := h'.1; omega)
/-- what the model's pipe asks -/
theorem pm_1 (h : al S pp) (h2 : 2 ≤ mfc S pp) : exd S pp ∧ exo S := by
  obtain ⟨i, a, b, g⟩ := cp_ex (P := fun d => S 2 (6 * pp + d) < 0) (n := 6) (by have : 2 ≤ cp (fun d => S 2 (6 * pp + d) < 0) 6 := h2; omega)
  have := h.1
  have := h.2.1
  exact ⟨⟨i, a, b, g⟩, ph_o (i := 6 * pp + i) (by omega) (by omega) g⟩
theorem pm_2 {q r o : Int} (h : al S pp) (h2 : 2 ≤ mfc S pp) : exd (mld (su S 9 q 0) pp r o 1 q) pp ∧ exo (mld (su S 9 q 0) pp r o 1 q) := by
  obtain ⟨i, a, b, g, n⟩ := cp_two (P := fun d => S 2 (6 * pp + d) < 0) (n := 6) h2 r
  have := h.1
  have := h.2.1
  have g : S 2 (6 * pp + i) < 0 := g
  have e : mld (su S 9 q 0) pp r o 1 q 2 (6 * pp + i) = S 2 (6 * pp + i) := by
    show su _ 2 (6 * pp + r) o 2 (6 * pp + i) = _
    rw [su_n (by omega)]
    rfl
  exact ⟨⟨i, a, b, by rw [e]; exact g⟩, ph_o (i := 6 * pp + i) (by omega) (by omega) (by rw [e]; exact g)⟩
theorem tt_pipe (H : Rel S X) (hx : xq_pipe X pp zx X') (hm : mq_pipe S pp zm S') : zx = zm ∧ Rel S' X' := by
  have H' := H
  obtain ⟨⟨i1, i2, i3, i4, i45, i5, i6, i7, i9, iD, iL, iU⟩, r0, r1, r2, r3, r4, r5, r6, r7, r8, r9, r10, r11, r12, r13, r14, r15⟩ := H'
  have ha := tr_al (pp := pp) H
  by_cases hc : al S pp
  · have hp : 0 ≤ pp ∧ pp ≤ 3 := ⟨hc.1, hc.2.1⟩
    rcases hm with ⟨m1, -, -⟩ | ⟨m1, m2, rfl, rfl⟩ | ⟨m1, m2, q, r, o1, w, o2, m3, m4, m5, m6, m7, rfl, rfl⟩
    · exact absurd hc m1
    · rcases hx with ⟨x1, -, -⟩ | ⟨x1, x2, rfl, rfl⟩ | ⟨x1, x2, rfl, rfl⟩ | ⟨x1, r, w, q, o1, o2, x2, x3, x4, x5, x6, rfl, rfl⟩
      · exact absurd (ha.mpr hc) x1
      · exact ⟨rfl, H⟩
      · exact ⟨rfl, H⟩
      · have a1 := (tr_lfd H hp (by omega)).mp x2
        have := mfc_2 a1 ((tr_lfd H hp (by have := x2.1; omega)).mp x3)
        exfalso; omega
    · rcases hx with ⟨x1, -, -⟩ | ⟨x1, x2, rfl, rfl⟩ | ⟨x1, ⟨r', x2, x3⟩, rfl, rfl⟩ | ⟨x1, r', w', q', o1', o2', x2, x3, x4, x5, x6, rfl, rfl⟩
      · exact absurd (ha.mpr hc) x1
      · have := mfc_0 ((tr_nfd H hp (by omega)).mp x2)
        exfalso; omega
      · have := mfc_1 ((tr_lfd H hp (by omega)).mp x2) ((tr_nfd H hp (by have := x2.1; omega)).mp x3)
        exfalso; omega
      · obtain rfl := lfd_u ((tr_lfd H hp (by omega)).mp x2) m4
        obtain rfl := tr_luo H x5 m5
        have m3r : ¬ hop S 3 q := by
          by_cases z : q < 23
          · exact m3.2.2.2 z
          · obtain ⟨k, k0, k1, k2⟩ := ph_p (pm_1 hc m2).2
            have : k = q := by
              have := m3.2.1
              rcases Int.lt_trichotomy k q with y | y | y
              · exact absurd (m3.2.2.1 k k0 y) k2
              · exact y
              · omega
            rw [← this]; exact k2
        have hq0 := m3.1
        have hq1 : q < 24 := by have := m3.2.1; omega
        obtain rfl : q' = q := lz_u x4 hq0 hq1 ((tr_pq H hq0 hq1).mpr m3r) (fun j a b z => (tr_pq H a (by omega)).mp z (m3.2.2.1 j a b))
        have hpq := (tr_pq H hq0 hq1).mpr m3r
        have hr0 := m4.1
        have hr1 := m4.2.1
        have ho0 := m5.1
        have ho1 := m5.2.1
        have H0 : Rel (su S 9 q' 0) (su (su X 13 q' 0) 14 q' 0) := by
          refine stK H (fun j => by simp [su]) (fun j => by simp [su]) (fun j => by simp [su]) (fun j => by simp [su]) (by simp [su]) (fun j => by simp [su]) (fun j => by simp [su]) (fun j => by simp [su]) (fun j => by simp [su]) (fun j => by simp [su]) (fun j => by simp [su]) (fun j => by simp [su]) i5 i6 i7 (rg_su i9 (by omega) (by omega)) iL r6 r7 r8 r9 r10 ?_ ?_ ?_
          · intro j a b; rw [su_k (by decide)]; exact rg_su r13 (by omega) (by omega) j a b
          · intro j a b
            rw [su_v, su_v, su_k (k' := 14) (by decide), r14 j a b]
          · intro k j a b c d
            rw [su_v] at d
            by_cases z : k = q'
            · rw [if_pos z] at d; exfalso; omega
            · rw [if_neg z] at d
              rw [su_k (k' := 13) (by decide), su_n z, su_k (k' := 15) (by decide), su_k (k' := 15) (by decide), su_k (k' := 15) (by decide), su_k (k' := 15) (by decide), su_k (k' := 10) (by decide)]
              exact r15 k j a b c d
        have n11 : ¬ rd S 1 q' := by
          rcases r11 q' hq0 hq1 with ⟨y, -⟩ | ⟨-, y⟩
          · have := hpq.1; exfalso; omega
          · exact y
        have H1 : Rel (mld (su S 9 q' 0) pp r' o1' 1 q') (su (nop (su (su (su X 13 q' 0) 14 q' 0) 11 q' 1) o1' 2 q') 2 (6 * pp + r') o1') := by
          refine stA (i := 6 * pp + r') (o := o1') (s := 1) (w := q') H0 ⟨by omega, by omega, m4.2.2.1⟩ (al_of (S := su S 9 q' 0) (pp := pp) hc ⟨hr0, hr1⟩ rfl) ⟨ho0, ho1, m5.2.2.1⟩ (by omega) ⟨hq0, by omega, fun _ => by omega⟩ (fun _ => n11)
            (fun j => by simp [su]) (fun j => by simp [su]) (fun j => by simp [su]) (fun j => by simp [su]) (fun j => by simp [su]) (fun j => by simp [su]) (fun j => by simp [su]) (fun j => by simp [su]) (fun j => by simp [su]) (fun j => by simp [su])
            (by simp [su]) (fun j => by simp [su]) (fun j => by simp [su]) (fun j => by simp [su]) (fun j => by simp [su]) (fun j => by simp [su]) (fun j => by simp [su]) (fun j => by simp [su]) (fun j => by simp [su]) (fun j => by simp [su]) (fun j => by simp [su]) (fun j => by simp [su]) (fun j => by simp [su]) (fun j => by simp [su]) (fun j => by simp [su]) (fun j => by simp [su])
        obtain rfl : o2' = o2 := tr_luo H1 x6 m7
        have n12 : ¬ rd (mld (su S 9 q' 0) pp r' o1' 1 q') 2 q' := by
          rcases H1.2.2.2.2.2.2.2.2.2.2.2.2.2.1 q' hq0 hq1 with ⟨y, -⟩ | ⟨-, y⟩
          · have y : X 12 q' = 1 := y
            have := hpq.2; exfalso; omega
          · exact y
        have e2 : ∀ d, d ≠ r' → mld (su S 9 q' 0) pp r' o1' 1 q' 2 (6 * pp + d) = S 2 (6 * pp + d) := fun d g => by
          show su _ 2 (6 * pp + r') o1' 2 (6 * pp + d) = _
          rw [su_n (by omega)]
          rfl
        have e2r : mld (su S 9 q' 0) pp r' o1' 1 q' 2 (6 * pp + r') = o1' := su_s
        have hw : lfd S pp (r' + 1) w := by
          obtain ⟨a, b, g, k⟩ := m6
          have wr : w ≠ r' := fun z => by rw [z, e2r] at g; omega
          have g' : S 2 (6 * pp + w) < 0 := by rw [← e2 w wr]; exact g
          have wl : r' < w := by
            rcases Int.lt_trichotomy w r' with y | y | y
            · have := m4.2.2.2 w a y; omega
            · exact absurd y wr
            · exact y
          exact ⟨by omega, b, g', fun d a1 b1 => by rw [← e2 d (by omega)]; exact k d (by omega) b1⟩
        obtain rfl : w' = w := lfd_u ((tr_lfd H hp (by omega)).mp x3) hw
        refine ⟨rfl, ?_⟩
        exact stA (i := 6 * pp + w') (o := o2') (s := 2) (w := q') H1 ⟨by have := m6.1; omega, by have := m6.2.1; omega, m6.2.2.1⟩ (al_of (S := mld (su S 9 q' 0) pp r' o1' 1 q') (pp := pp) hc ⟨m6.1, m6.2.1⟩ rfl) ⟨m7.1, m7.2.1, m7.2.2.1⟩ (by omega) ⟨hq0, by omega, fun _ => by omega⟩ (fun _ => n12)
            (fun j => by simp [su]) (fun j => by simp [su]) (fun j => by simp [su]) (fun j => by simp [su]) (fun j => by simp [su]) (fun j => by simp [su]) (fun j => by simp [su]) (fun j => by simp [su]) (fun j => by simp [su]) (fun j => by simp [su])
            (by simp [su]) (fun j => by simp [su]) (fun j => by simp [su]) (fun j => by simp [su]) (fun j => by simp [su]) (fun j => by simp [su]) (fun j => by simp [su]) (fun j => by simp [su]) (fun j => by simp [su]) (fun j => by simp [su]) (fun j => by simp [su]) (fun j => by simp [su]) (fun j => by simp [su]) (fun j => by simp [su]) (fun j => by simp [su]) (fun j => by simp [su])
  · have hc' : ¬ al X pp := fun z => hc (ha.mp z)
    rcases hm with ⟨m1, rfl, rfl⟩ | ⟨m1, -⟩ | ⟨m1, -⟩
    · rcases hx with ⟨x1, rfl, rfl⟩ | ⟨x1, -⟩ | ⟨x1, -⟩ | ⟨x1, -⟩
      · exact ⟨rfl, H⟩
      · exact absurd x1 hc'
      · exact absurd x1 hc'
      · exact absurd x1 hc'
    · exact absurd m1 hc
    · exact absurd m1 hc
theorem cp_all {P : Int → Prop} : ∀ n : Nat, (∀ i : Int, 0 ≤ i → i < n → P i) → cp P n = n
  | 0, _ => rfl
  | n + 1, h => by rw [cp_sy (h n (by omega) (by omega)), cp_all n (fun i a b => h i a (by omega))]; omega
theorem cp_lt {P : Int → Prop} {n : Nat} {i : Int} (h0 : 0 ≤ i) (h1 : i < n) (h : ¬ P i) : cp P n < n := by
  have e := cp_add (P := P) (Q := fun j => P j ∨ j = i) n h0 h1 (fun j _ _ g => ⟨Or.inl, fun q => q.resolve_right g⟩) h (Or.inr rfl)
  have := cp_r (fun j => P j ∨ j = i) n
  omega
theorem mfk_2 {pp c d i : Int} : mfk S pp c d 2 i = if 6 * c ≤ i ∧ i < 6 * c + d then S 2 (6 * pp + (i - 6 * c)) else S 2 i := by
  unfold mfk
  by_cases g : 6 * c ≤ i ∧ i < 6 * c + d
  · rw [if_pos g, if_pos ⟨rfl, g⟩]
  · rw [if_neg g, if_neg (fun z => g z.2)]
/-- the copied descriptors, counted -/
theorem fk_cp {c o : Int} (hc : 0 ≤ c ∧ c < 4) (ho : 0 ≤ o) (hpc : pp ≠ c) (hf : ∀ d : Int, 0 ≤ d → d < 6 → S 2 (6 * c + d) = -1) : ∀ d : Nat, d ≤ 6 → cp (fun i => mfk S pp c d 2 i = o) 24 = cp (fun i => S 2 i = o) 24 + cp (fun j => S 2 (6 * pp + j) = o) d
  | 0, _ => by
    show _ = _ + 0
    rw [Int.add_zero]
    exact cp_congr 24 (fun i _ _ => by rw [mfk_2, if_neg (by omega)])
  | d + 1, h => by
    have ih := fk_cp hc ho hpc hf d (by omega)
    have e0 : mfk S pp c (d : Int) 2 (6 * c + d) = -1 := by rw [mfk_2, if_neg (by omega)]; exact hf d (by omega) (by omega)
    have e1 : mfk S pp c ((d + 1 : Nat) : Int) 2 (6 * c + d) = S 2 (6 * pp + d) := by rw [mfk_2, if_pos (by omega)]; congr 1; omega
    have en : ∀ i : Int, i ≠ 6 * c + d → mfk S pp c ((d + 1 : Nat) : Int) 2 i = mfk S pp c (d : Int) 2 i := fun i g => by
      rw [mfk_2, mfk_2]
      by_cases z : 6 * c ≤ i ∧ i < 6 * c + (d : Int)
      · rw [if_pos z, if_pos (by omega)]
      · rw [if_neg z, if_neg (by omega)]
    by_cases g : S 2 (6 * pp + (d : Int)) = o
    · rw [cp_sy (P := fun j => S 2 (6 * pp + j) = o) g, ← Int.add_assoc, ← ih]
      exact cp_add (P := fun i => mfk S pp c (d : Int) 2 i = o) (Q := fun i => mfk S pp c ((d + 1 : Nat) : Int) 2 i = o) (i := 6 * c + d) 24 (by omega) (by omega) (fun j _ _ z => by rw [en j z]) (by omega) (by rw [e1]; exact g)
    · rw [cp_sn (P := fun j => S 2 (6 * pp + j) = o) g, ← ih]
      exact cp_congr 24 (fun i _ _ => by
        by_cases z : i = 6 * c + d
        · rw [z, e0, e1]; constructor <;> intro y <;> omega
        · rw [en i z])
theorem tt_fork (H : Rel S X) (hx : xq_fork X pp zx X') (hm : mq_fork S pp zm S') : zx = zm ∧ Rel S' X' := by
  have H' := H
  obtain ⟨⟨i1, i2, i3, i4, i45, i5, i6, i7, i9, iD, iL, iU⟩, r0, r1, r2, r3, r4, r5, r6, r7, r8, r9, r10, r11, r12, r13, r14, r15⟩ := H'
  have ha := tr_al (pp := pp) H
  by_cases hc : al S pp
  · have hp : 0 ≤ pp ∧ pp ≤ 3 := ⟨hc.1, hc.2.1⟩
    rcases hm with ⟨m1, -, -⟩ | ⟨m1, m2, rfl, rfl⟩ | ⟨m1, ⟨m2, m3, m4, m5⟩, rfl⟩
    · exact absurd hc m1
    · have e : X 0 0 = 4 := by rw [r0]; exact cp_all 4 (fun i a b => m2 i a (by omega))
      rcases hx with ⟨x1, -, -⟩ | ⟨x1, x2, rfl, rfl⟩ | ⟨x1, x2, x3, x4⟩
      · exact absurd (ha.mpr hc) x1
      · exact ⟨rfl, H⟩
      · exact absurd e x2
    · have e : X 0 0 < 4 := by rw [r0]; exact cp_lt (P := fun j => S 1 j ≠ 0) (n := 4) m2 (by omega) (fun z => z m4)
      rcases hx with ⟨x1, -, -⟩ | ⟨x1, x2, rfl, rfl⟩ | ⟨x1, x2, x3, x4⟩
      · exact absurd (ha.mpr hc) x1
      · exfalso; omega
      · obtain rfl : zx = zm := lz_u x3 m2 m3 (by rw [r1 zm m2 m3]; exact m4) (fun j a b => by rw [r1 j a (by omega)]; exact m5 j a b)
        refine ⟨rfl, ?_⟩
        have H0 : Rel (su S 1 zx 1) (su (su X 1 zx 1) 0 0 (X 0 0 + 1)) := stL H ⟨m2, m3⟩ (Or.inr rfl) (fun z => by omega) (by
          rw [r0]
          exact (cp_add (P := fun j => S 1 j ≠ 0) (Q := fun j => su S 1 zx 1 1 j ≠ 0) 4 m2 (by omega) (fun j _ _ g => by rw [su_n g]) (fun z => z m4) (by rw [su_s]; omega)).symm)
        have hf : ∀ d : Int, 0 ≤ d → d < 6 → su S 1 zx 1 2 (6 * zx + d) = -1 := fun d a b => by
          rw [su_k (by decide)]; exact iD zx d m2 (by omega) m4 a b
        have hpz : pp ≠ zx := fun z => by have := hc.2.2; rw [z] at this; omega
        generalize hS0 : su S 1 zx 1 = S0 at H0 hf ⊢
        have hd1 : ∀ p, S0 1 p = 0 → p ≠ zx := fun p g z => by rw [← hS0, z, su_s] at g; omega
        generalize su (su X 1 zx 1) 0 0 (X 0 0 + 1) = X0 at H0 x4
        clear hS0 H i1 i2 i3 i4 i45 i5 i6 i7 i9 iD iL iU r0 r1 r2 r3 r4 r5 r6 r7 r8 r9 r10 r11 r12 r13 r14 r15
        have H' := H0
        obtain ⟨⟨i1, i2, i3, i4, i45, i5, i6, i7, i9, iD, iL, iU⟩, r0, r1, r2, r3, r4, r5, r6, r7, r8, r9, r10, r11, r12, r13, r14, r15⟩ := H'
        obtain ⟨f1, f2, f3⟩ := x4
        have eS : ∀ (k : Nat) (j : Int), k ≠ 2 → mfk S0 pp zx 6 k j = S0 k j := fun k j g => by
          unfold mfk; rw [if_neg (fun z => g z.1)]
        have op : ∀ j, 0 ≤ j → (opd (mfk S0 pp zx 6) j ↔ opd S0 j) := fun j hj => by
          constructor
          · rintro ⟨k, k0, k1, k2⟩
            rw [mfk_2] at k2
            split at k2
            · exact ⟨_, by omega, by omega, k2⟩
            · exact ⟨k, k0, k1, k2⟩
          · rintro ⟨k, k0, k1, k2⟩
            refine ⟨k, k0, k1, ?_⟩
            rw [mfk_2, if_neg (fun z => by
              have := hf (k - 6 * zx) (by omega) (by omega)
              rw [show 6 * zx + (k - 6 * zx) = k by omega] at this
              omega)]
            exact k2
        have e3 := fun j => eS 3 j (by decide)
        have e4 := fun j => eS 4 j (by decide)
        refine stO H0 eS (fun k j g1 g2 _ _ _ => f1 k j g1 g2) ?_ ?_ (fun j hj => (op j hj).mp) ?_ ?_ ?_ ?_ ?_
        · intro j a b
          rw [mfk_2]
          split
          · exact i2 _ (by omega) (by omega)
          · exact i2 j a b
        · intro p d a b g c f
          have := hd1 p g
          rw [mfk_2, if_neg (by omega)]
          exact iD p d a b g c f
        · intro j a b
          rw [f2, mfk_2]
          split
          · exact r2 _ (by omega) (by omega)
          · exact r2 j a b
        · intro o a b
          have e := fk_cp (S := S0) (pp := pp) (c := zx) (o := o) ⟨m2, m3⟩ a hpz hf 6 (by omega)
          rw [f3 o a, r3 o a b]
          refine Eq.trans ?_ e.symm
          congr 1
          exact cp_congr 6 (fun j a b => by rw [r2 _ (by omega) (by omega)])
        · intro f a b
          rw [f1 8 f (by decide) (by decide), fo_eq op e3 e4]
          exact r8 f a b
        · intro q a b
          rw [f1 11 q (by decide) (by decide), rd_eq op e3 e4]
          exact r11 q a b
        · intro q a b
          rw [f1 12 q (by decide) (by decide), rd_eq op e3 e4]
          exact r12 q a b
  · have hc' : ¬ al X pp := fun z => hc (ha.mp z)
    rcases hm with ⟨m1, rfl, rfl⟩ | ⟨m1, -⟩ | ⟨m1, -⟩
    · rcases hx with ⟨x1, rfl, rfl⟩ | ⟨x1, -⟩ | ⟨x1, -⟩
      · exact ⟨rfl, H⟩
      · exact absurd x1 hc'
      · exact absurd x1 hc'
    · exact absurd m1 hc
    · exact absurd m1 hc
/-- exit: the descriptors are let go one by one -/
theorem ex_rel (H : Rel S X) (hp : 0 ≤ pp ∧ pp ≤ 3) : ∀ n : Nat, n ≤ 6 → Rel (mex S pp n) (ex X pp n)
  | 0, _ => by
    have h0 : Rel (mex S pp 0) X := by rw [← mex_0]; exact H
    exact h0
  | n + 1, h => by
    have ih := ex_rel H hp n (by omega)
    have e2 := ih.2.2.2.1 (6 * pp + n) (by omega) (by omega)
    have b2 := ih.1.2.1 (6 * pp + n) (by omega) (by omega)
    have es : su (mex S pp n) 2 (6 * pp + n) (-1) = mex S pp ((n + 1 : Nat) : Int) := by
      rw [show ((n + 1 : Nat) : Int) = (n : Int) + 1 by omega]
      exact mex_s rfl (by omega)
    rw [ex]
    by_cases g : 0 ≤ ex X pp n 2 (6 * pp + (n : Int))
    · rw [if_pos g, ← es, e2]
      exact stB ih ⟨by omega, by omega⟩ rfl (by omega)
    · rw [if_neg g, ← es]
      have : su (mex S pp n) 2 (6 * pp + n) (-1) = mex S pp n := by
        funext k i
        by_cases z : k = 2 ∧ i = 6 * pp + n
        · obtain ⟨rfl, rfl⟩ := z
          rw [su_s]; omega
        · unfold su; rw [if_neg z]
      rw [this]
      exact ih
theorem ex_B (H : Rel S X) (hp : 0 ≤ pp ∧ pp ≤ 3) (n : Nat) (hn : n < 6) : exB (ex X pp n) := by
  obtain ⟨-, -, b2, b3, b4, b5, -, -, -, -, -, -, -, -, b45⟩ := bX (ex_rel H hp n (by omega))
  exact ⟨b2, b3, b4, b5, b45⟩
theorem tt_exit (H : Rel S X) (hx : xq_exit X pp zx X') (hm : mq_exit S pp zm S') : zx = zm ∧ Rel S' X' := by
  have ha := tr_al (pp := pp) H
  have r0 := H.2.1
  by_cases hc : al S pp
  · have hp : 0 ≤ pp ∧ pp ≤ 3 := ⟨hc.1, hc.2.1⟩
    have hn : S 1 pp ≠ 0 := by have := hc.2.2; omega
    have e : cp (fun j => S 1 j ≠ 0) 4 = moc S pp + 1 := cp_add (P := fun j => S 1 j ≠ 0 ∧ j ≠ pp) (Q := fun j => S 1 j ≠ 0) 4 hp.1 (by omega) (fun j _ _ g => ⟨fun z => z.1, fun z => ⟨z, g⟩⟩) (fun z => z.2 rfl) hn
    rcases hm with ⟨m1, -, -⟩ | ⟨m1, m2, rfl, rfl⟩ | ⟨m1, m2, rfl, rfl⟩
    · exact absurd hc m1
    · rcases hx with ⟨x1, rfl, rfl⟩ | ⟨x1, rfl, rfl⟩
      · exact ⟨rfl, H⟩
      · have := x1.2; exfalso; omega
    · rcases hx with ⟨x1, rfl, rfl⟩ | ⟨x1, rfl, rfl⟩
      · exact absurd ⟨ha.mpr hc, by omega⟩ x1
      · refine ⟨rfl, ?_⟩
        have H6 : Rel (mex S pp 6) (ex X pp 6) := ex_rel H hp 6 (by omega)
        have es : mex (su S 1 pp 0) pp 6 = su (mex S pp 6) 1 pp 0 := by
          funext k i
          by_cases z : k = 1
          · subst z
            have q1 : mex (su S 1 pp 0) pp 6 1 i = su S 1 pp 0 1 i := by unfold mex; rw [if_neg (fun y => by have := y.1; omega)]
            have q2 : mex S pp 6 1 i = S 1 i := by unfold mex; rw [if_neg (fun y => by have := y.1; omega)]
            rw [q1, su_v, su_v, q2]
          · rw [su_k (X := mex S pp 6) z]
            unfold mex
            rw [su_k z]
        rw [es]
        refine stL H6 ⟨hp.1, by omega⟩ (Or.inl rfl) (fun _ d a b => ?_) ?_
        · unfold mex; rw [if_pos ⟨rfl, by omega, by omega⟩]
        · have e6 := H6.2.1
          have e1 : ∀ j, mex S pp 6 1 j = S 1 j := fun j => by unfold mex; rw [if_neg (fun y => by have := y.1; omega)]
          have e7 : cp (fun j => mex S pp 6 1 j ≠ 0) 4 = cp (fun j => su (mex S pp 6) 1 pp 0 1 j ≠ 0) 4 + 1 := cp_add (P := fun j => su (mex S pp 6) 1 pp 0 1 j ≠ 0) (Q := fun j => mex S pp 6 1 j ≠ 0) 4 hp.1 (by omega) (fun j _ _ g => by rw [su_n g]) (fun z => z su_s) (by rw [e1]; exact hn)
          omega
  · have hc' : ¬ al X pp := fun z => hc (ha.mp z)
    rcases hm with ⟨m1, rfl, rfl⟩ | ⟨m1, -⟩ | ⟨m1, -⟩
    · rcases hx with ⟨x1, rfl, rfl⟩ | ⟨x1, -⟩
      · exact ⟨rfl, H⟩
      · exact absurd x1.1 hc'
    · exact absurd m1 hc
    · exact absurd m1 hc
/-- the first states -/
def xi0 (X : oS) : Prop := X 0 0 = 1 ∧ X 1 0 = 1 ∧ (∀ i : Int, 0 ≤ i → i < 24 → X 2 i = -1) ∧ (∀ i : Int, 0 ≤ i → i < 4 → X 7 i = -1) ∧ ∀ (k : Nat) (i : Int), k ≠ 0 → k ≠ 2 → k ≠ 7 → ¬ (k = 1 ∧ i = 0) → X k i = 0
def mi0 (S : oS) : Prop := S 1 0 = 1 ∧ (∀ i : Int, 0 ≤ i → i < 24 → S 2 i = -1) ∧ (∀ i : Int, 0 ≤ i → i < 4 → S 6 i = -1) ∧ ∀ (k : Nat) (i : Int), k ≠ 2 → k ≠ 6 → ¬ (k = 1 ∧ i = 0) → S k i = 0
theorem tt_init (hx : xi0 X) (hm : mi0 S) : Rel S X := by
  obtain ⟨x0, x1, x2, x7, xz⟩ := hx
  obtain ⟨s1, s2, s6, sz⟩ := hm
  have no : ∀ o, 0 ≤ o → ¬ opd S o := fun o h ⟨k, k0, k1, k2⟩ => by have := s2 k k0 k1; omega
  have s3 := fun i => sz 3 i (by decide) (by decide) (by omega)
  have s4 := fun i => sz 4 i (by decide) (by decide) (by omega)
  have s5 := fun i => sz 5 i (by decide) (by decide) (by omega)
  have s7 := fun i => sz 7 i (by decide) (by decide) (by omega)
  have s8 := fun i => sz 8 i (by decide) (by decide) (by omega)
  have s9 := fun i => sz 9 i (by decide) (by decide) (by omega)
  have s1n : ∀ i, i ≠ 0 → S 1 i = 0 := fun i h => sz 1 i (by decide) (by decide) (by omega)
  have x1n : ∀ i, i ≠ 0 → X 1 i = 0 := fun i h => xz 1 i (by decide) (by decide) (by decide) (by omega)
  have xk : ∀ k : Nat, k ≠ 0 → k ≠ 1 → k ≠ 2 → k ≠ 7 → ∀ i, X k i = 0 := fun k h0 h1 h2 h7 i => xz k i h0 h2 h7 (fun z => h1 z.1)
  refine ⟨⟨?_, ?_, ?_, ?_, ?_, ?_, ?_, ?_, ?_, ?_, ?_, ?_⟩, ?_, ?_, ?_, ?_, ?_, ?_, ?_, ?_, ?_, ?_, ?_, ?_, ?_, ?_, ?_, ?_⟩
  · intro i a b
    by_cases z : i = 0
    · rw [z, s1]; omega
    · rw [s1n i z]; omega
  · intro i a b; rw [s2 i a b]; omega
  · intro i a b; rw [s3]; omega
  · intro i a b; rw [s4]; omega
  · intro i a b _; rw [s4]; omega
  · intro i a b; rw [s5]; omega
  · intro i a b; rw [s6 i a b]; omega
  · intro i a b; rw [s7]; omega
  · intro i a b; rw [s9]; omega
  · intro p d a b g c f; exact s2 _ (by omega) (by omega)
  · intro o a b g; exact absurd g (no o a)
  · intro o q a b c d g; exact absurd g (no o a)
  · have e : cp (fun j => S 1 j ≠ 0) 4 = cp (fun _ => False) 4 + 1 := cp_add (P := fun _ => False) (Q := fun j => S 1 j ≠ 0) (i := 0) 4 (by omega) (by omega) (fun j _ _ g => ⟨fun z => z.elim, fun z => z (s1n j g)⟩) (fun z => z) (by rw [s1]; omega)
    have e0 : cp (fun _ => False) 4 = 0 := cp_0 4 (fun _ _ _ z => z)
    omega
  · intro i a b
    by_cases z : i = 0
    · rw [z, s1, x1]
    · rw [s1n i z, x1n i z]
  · intro i a b; rw [s2 i a b, x2 i a b]
  · intro o a b
    rw [xk 3 (by decide) (by decide) (by decide) (by decide), cp_0 24 (fun i c d z => no o a ⟨i, c, d, z⟩)]
  · intro o a b; exact Or.inr ⟨xk 4 (by decide) (by decide) (by decide) (by decide) o, no o a, by rw [s4]; omega⟩
  · intro o a b; rw [s4]; exact xk 5 (by decide) (by decide) (by decide) (by decide) o
  · intro o a b; rw [s5]; exact xk 6 (by decide) (by decide) (by decide) (by decide) o
  · intro n a b; rw [s6 n a b, x7 n a b]
  · intro f a b
    have e1 : cp (fun n => S 6 n = f) 4 = 0 := cp_0 4 (fun n c d z => by have := s6 n c d; omega)
    have e2 : fo S f = 0 := cp_0 24 (fun o c d z => no o c z.1)
    have e0 := xk 8 (by decide) (by decide) (by decide) (by decide) f
    omega
  · intro f a b; rw [s7]; exact xk 9 (by decide) (by decide) (by decide) (by decide) f
  · intro f a b; rw [s8]; exact xk 10 (by decide) (by decide) (by decide) (by decide) f
  · intro q a b; exact Or.inr ⟨xk 11 (by decide) (by decide) (by decide) (by decide) q, fun ⟨o, c, _, _, _, d⟩ => no o c d⟩
  · intro q a b; exact Or.inr ⟨xk 12 (by decide) (by decide) (by decide) (by decide) q, fun ⟨o, c, _, _, _, d⟩ => no o c d⟩
  · intro q a b; rw [xk 13 (by decide) (by decide) (by decide) (by decide)]; omega
  · intro q a b; rw [s9]; exact xk 14 (by decide) (by decide) (by decide) (by decide) q
  · intro q j a b c d; rw [s9] at d; exfalso; omega
end OPS3
end
section
/-! the constructors -/
set_option maxRecDepth 100000
/-- made arrays: address, boolean, length -/
abbrev kL : Type := List (Nat × Bool × Nat)
def kE (cI cZ : ClassId) (q : Nat × Bool × Nat) : Nat × va_E := (q.1, .inl (if q.2.1 = true then cZ else cI, q.2.2, .inl (fun _ : Nat => iI 0)))
def kA (cI cZ : ClassId) (L : kL) : va_W := L.map (kE cI cZ)
def kR (L : kL) : List Value := L.map (fun q => Value.ref q.1)
/-- a constructor's world: the arrays L are made, n fields are still null -/
def kW (ci : Nat) (pre : List Value) (cI cZ : ClassId) (h : Nat) (L : kL) (n : Nat) : va_W := (h, .inr (ci, (pre ++ kR L) ++ List.replicate n Value.null)) :: kA cI cZ L
def kM (ci : Nat) (pre : List Value) (D : va_G) (cI cZ : ClassId) (h : Nat) (A : Nat → Prop) (s : State) (L : kL) (n : Nat) (H : Heap) (locs : List Loc) : Prop :=
  va_K D vwCl [(cI, .int), (cZ, .boolean)] s ∧ va_P D vwCl (kW ci pre cI cZ h L n) H ∧ va_D A (kW ci pre cI cZ h L n) ∧ va_S A s.heap H locs ∧ ∀ q, s.heap.size ≤ q → A q
def kT (b : Bool) : FieldType := if b = true then .boolean else .int
theorem k_set (as : List Value) (n : Nat) (v : Value) : (as ++ List.replicate (n + 1) Value.null).set as.length v = (as ++ [v]) ++ List.replicate n Value.null := by
  rw [List.set_append_right _ _ (Nat.le_refl _), Nat.sub_self, List.replicate_succ, List.set_cons_zero, List.append_assoc]
  rfl
theorem k_W {ci : Nat} {pre : List Value} {cI cZ : ClassId} {h : Nat} {L : kL} {n k : Nat} (x : Nat × Bool × Nat) (hk : k = pre.length + L.length) : (kW ci pre cI cZ h L (n + 1) ++ [kE cI cZ x]).set 0 (h, .inr (ci, ((pre ++ kR L) ++ List.replicate (n + 1) Value.null).set k (.ref x.1))) = kW ci pre cI cZ h (L ++ [x]) n := by
  have e : k = (pre ++ kR L).length := by rw [List.length_append, kR, List.length_map]; exact hk
  have e1 : kR (L ++ [x]) = kR L ++ [.ref x.1] := by unfold kR; rw [List.map_append]; rfl
  have e2 : kA cI cZ (L ++ [x]) = kA cI cZ L ++ [kE cI cZ x] := by unfold kA; rw [List.map_append]; rfl
  rw [e, k_set]
  unfold kW
  rw [e1, e2]
  show (h, Sum.inr (ci, _)) :: (kA cI cZ L ++ [kE cI cZ x]) = _
  rw [List.append_assoc pre]
/-- an array class is one -/
theorem k_one {D : va_G} {cI cZ cA : ClassId} {s : State} (b : Bool) (h : va_K D vwCl [(cI, .int), (cZ, .boolean)] s) (h' : va_K D vwCl ([(cI, .int), (cZ, .boolean)] ++ [(cA, kT b)]) s) : cA = if b = true then cZ else cI := by
  cases b with
  | true =>
    have a1 : s.vm.findClass ("[" ++ FieldType.boolean.toString) = some cZ := (h.2 1 _ rfl).2
    have a2 : s.vm.findClass ("[" ++ FieldType.boolean.toString) = some cA := (h'.2 2 _ rfl).2
    exact Option.some.inj (a2.symm.trans a1)
  | false =>
    have a1 : s.vm.findClass ("[" ++ FieldType.int.toString) = some cI := (h.2 0 _ rfl).2
    have a2 : s.vm.findClass ("[" ++ FieldType.int.toString) = some cA := (h'.2 2 _ rfl).2
    exact Option.some.inj (a2.symm.trans a1)
/-- .. and is known at the start -/
theorem k_known {D : va_G} {s : State} {args : Array Value} (h0 : va_K D vwCl [] s) (hts : ∀ w ∈ lw_all, w.before args s = true) : ∃ cI cZ : ClassId, va_K D vwCl [(cI, .int), (cZ, .boolean)] s := by
  obtain ⟨cI, kI, pI, a1, a2, a3⟩ := Cond.arrayClass_spec (hts _ q81)
  obtain ⟨cZ, kZ, pZ, b1, b2, b3⟩ := Cond.arrayClass_spec (hts _ q80)
  refine ⟨cI, cZ, h0.1, fun k q hq => ?_⟩
  match k, hq with
  | 0, hq => cases hq; exact ⟨fun n z => ⟨fun k h => (by cases h), kI, a2, pI, a3⟩, a1⟩
  | 1, hq => cases hq; exact ⟨fun n z => ⟨fun k h => (by cases h), kZ, b2, pZ, b3⟩, b1⟩
  | k + 2, hq => simp at hq
section KROWS
variable {p : Program} {l : Launch} {e : Env} {R : Room} {s : State} {m : MethodId} {args : Array Value} {below : List Frame} {meth : Method} {c : Code} {H : Heap} {locs : List Loc} {cells slots : Nat} {Q : State → Prop}
variable {cc : ByteArray} {pc nL : Nat} {ls : Array Slot} {ret : Option FieldType} {own : String}
variable {D : va_G} {cI cZ : ClassId} {h : Nat} {A : Nat → Prop}
/-- newarray, and its field -/
theorem k_mk {ci : Nat} {pre : List Value} {L : kL} {n : Nat} (b : Bool) {z : Int} (N : Nat) {C : String} {T : u_T} {NF idx : Nat} {ty0 : Nat → FieldType} {atype : ArrayType} (E : mE p s m args meth c cc nL ret own) (hin2 : meth.name = "<init>") (hM : kM ci pre D cI cZ h A s L (n + 1) H locs)
    (hat : newarray.typeOf atype = kT b) (hz : z = (N : Int)) (hN : N ≤ 1000) (hcells : cells + 1 ≤ R.cells) (hslots : slots + N ≤ R.slots)
    (hin : ∀ w ∈ u_ws C T NF, w ∈ lw_all) (hty : ∀ k, k < NF → parseFieldDescriptor (T k).2.2.1 = some (ty0 k)) (hnm : ∀ a, a < NF → ∀ b, b < NF → a ≠ b → (T a).2.1 ≠ (T b).2.1) (hc : vwCl[ci]? = some (C, T, NF)) (k : Nat) (hk : k < NF) (hkl : k = pre.length + L.length)
    (hl : Cond.fieldLink own idx (T k).1 (T k).2.1 (T k).2.2.1 ∈ lw_all) (hfin : (T k).2.2.2 = true) (hdecl : (T k).1 = own) (hd : parseFieldDescriptor (T k).2.2.1 = some (.array (kT b)))
    (hd1 : decode cc pc = .ok (.newarray atype, 2)) (hd2 : decode cc (pc + 2) = .ok (.putfield idx, 3))
    (kk : ∀ (q : Nat) (H1 : Heap) (locs1 : List Loc), kM ci pre D cI cZ h A s (L ++ [(q, b, N)]) n H1 locs1 → W p l e R s m args below meth c H1 locs1 (cells + 1) (slots + N) Q (F0 m (pc + 5) ls [])) : W p l e R s m args below meth c H locs cells slots Q (F0 m pc ls [.int (iI z), .ref h]) := by
  obtain ⟨hK, hP, hD, hS, hA⟩ := hM
  subst hz
  have harr : (Cond.arrayClass (newarray.typeOf atype)).before args s = true := by
    rw [hat]
    cases b
    · exact E.2.2.2.2.1 _ q81
    · exact E.2.2.2.2.1 _ q80
  have hcb : componentBytes (kT b) ≤ 8 := by cases b <;> decide
  refine va_newa (N' := N) (a0 := (N, .inl (fun _ : Nat => iI 0))) E.1 E.2.1 harr hat hK hP hD hS hA (fun cA => ?_) ?_ ?_ ?_ hcells hslots hd1 (fun q cA H1 hK1 hP1 hD1 hS1 => ?_)
  · rw [show (fun _ : Nat => iI 0) = (fun _ => (0 : Int32)) from funext fun _ => ii_0]
    cases b <;> rfl
  · intro q
    rw [← ii_0] at q
    have := (ii_lt ⟨by omega, by omega⟩ ii_r0).mp q
    omega
  · rw [ii_cl (by omega) (by omega)]
    omega
  · exact Nat.le_trans (Nat.mul_le_mul_left N hcb) (by omega)
  · have hcA := k_one b hK hK1
    subst hcA
    refine va_putF (D := D) (cl := vwCl) (ci := ci) (v := .ref q) (ty := .array (kT b)) (C := C) (T := T) (N := NF) (fs := (pre ++ kR L) ++ List.replicate (n + 1) Value.null) E.1 E.2.1 E.2.2.2.2.1 hin ty0 hty hnm E.2.2.2.1 hK hP1 hD1 hS1 0 rfl hc k hk (E.2.2.2.2.1 _ hl) (fun _ q => q) hfin hin2 hdecl hd rfl rfl ?_ hd2 (fun H2 locs2 hP2 hD2 hS2 => ?_)
    · rw [List.length_append, List.length_append, kR, List.length_map, List.length_replicate]
      omega
    · have ew := k_W (ci := ci) (pre := pre) (cI := cI) (cZ := cZ) (h := h) (L := L) (n := n) (k := k) (q, b, N) hkl
      have hP2 : va_P D vwCl ((kW ci pre cI cZ h L (n + 1) ++ [kE cI cZ (q, b, N)]).set 0 (h, .inr (ci, ((pre ++ kR L) ++ List.replicate (n + 1) Value.null).set k (.ref q)))) H2 := hP2
      have hD2 : va_D A ((kW ci pre cI cZ h L (n + 1) ++ [kE cI cZ (q, b, N)]).set 0 (h, .inr (ci, ((pre ++ kR L) ++ List.replicate (n + 1) Value.null).set k (.ref q)))) := hD2
      rw [ew] at hP2 hD2
      exact kk q H2 locs2 ⟨hK, hP2, hD2, hS2, hA⟩
end KROWS
/-- places 0 .. n-1 of array k hold -1 -/
def fl (X : oS) (k : Nat) (n : Int) : oS := fun k' j => if k' = k ∧ 0 ≤ j ∧ j < n then -1 else X k' j
theorem fl_0 {X : oS} {k : Nat} : X = fl X k 0 := by
  funext k' j; unfold fl; rw [if_neg (by omega)]
theorem fl_s {X Y : oS} {k : Nat} {n : Int} (h : Y = fl X k n) (h0 : 0 ≤ n) : su Y k n (-1) = fl X k (n + 1) := by
  subst h
  funext k' j
  by_cases g : k' = k ∧ j = n
  · obtain ⟨rfl, rfl⟩ := g
    rw [su_s]; unfold fl; rw [if_pos ⟨rfl, by omega, by omega⟩]
  · unfold su; rw [if_neg g]; unfold fl
    by_cases g2 : k' = k ∧ 0 ≤ j ∧ j < n
    · rw [if_pos g2, if_pos ⟨g2.1, by omega, by omega⟩]
    · rw [if_neg g2, if_neg (fun z => by by_cases y : j = n; exact g ⟨z.1, y⟩; exact g2 ⟨z.1, by omega, by omega⟩)]
abbrev oz : oS := fun _ _ => 0
/-- a constructor's contract -/
def oI (cd : oD) (l : Launch) (y : MethodName) (cc : ByteArray) (nC nS : Nat) (D : va_G) (cI cZ : ClassId) (h : Nat) (fs : List Value) (post : oS → Prop) : Prop :=
  ∀ sz : Nat, Met l y (ws_ y cc 2 none) ({ frames := 1, cells := nC, slots := nS, locals := 12 }) (va_Pc [.ref h] (fun U => U.heap.size = sz ∧ va_P D vwCl [(h, .inr (cd.1, fs))] U.heap ∧ va_K D vwCl [(cI, .int), (cZ, .boolean)] U ∧ va_D (fun _ => True) [(h, .inr (cd.1, fs))]))
    (va_Qv (fun u : (Nat → Nat) × oS => post u.2) (fun u t => va_P D vwCl (oW cd cI cZ h u.1 u.2) t.heap ∧ va_K D vwCl [(cI, .int), (cZ, .boolean)] t ∧ va_D (va_A [(h, .inr (cd.1, fs))] sz) (oW cd cI cZ h u.1 u.2)) (va_A [(h, .inr (cd.1, fs))] sz)) nC nS (va_A [(h, .inr (cd.1, fs))] sz)
theorem fl_in {X : oS} {k : Nat} {n j : Int} (h0 : 0 ≤ j) (h1 : j < n) : fl X k n k j = -1 := by
  unfold fl; rw [if_pos ⟨rfl, h0, h1⟩]
theorem fl_k {X : oS} {k k' : Nat} {n j : Int} (h : k' ≠ k) : fl X k n k' j = X k' j := by
  unfold fl; rw [if_neg (fun z => h z.1)]
theorem xi_of {Y Z : oS} {d f : Int} (hY : Y = fl oz 2 d) (hZ : Z = fl Y 7 f) (hd : d = 24) (hf : f = 4) : xi0 (su (su Z 1 0 1) 0 0 1) := by
  subst hd hf hZ hY
  refine ⟨su_s, ?_, ?_, ?_, ?_⟩
  · rw [su_k (by decide), su_s]
  · intro i a b; rw [su_k (by decide), su_k (by decide), fl_k (by decide), fl_in a b]
  · intro i a b; rw [su_k (by decide), su_k (by decide), fl_in a b]
  · intro k i h0 h2 h7 h1
    rw [su_k h0]
    have : su (fl (fl oz 2 24) 7 4) 1 0 1 k i = fl (fl oz 2 24) 7 4 k i := by unfold su; rw [if_neg h1]
    rw [this, fl_k h7, fl_k h2]
theorem mi_of {Y Z : oS} {d f : Int} (hY : Y = fl (su oz 1 0 1) 2 d) (hZ : Z = fl Y 6 f) (hd : d = 24) (hf : f = 4) : mi0 Z := by
  subst hd hf hZ hY
  refine ⟨?_, ?_, ?_, ?_⟩
  · rw [fl_k (by decide), fl_k (by decide), su_s]
  · intro i a b; rw [fl_k (by decide), fl_in a b]
  · intro i a b; rw [fl_in a b]
  · intro k i h2 h6 h1
    rw [fl_k h6, fl_k h2]
    unfold su; rw [if_neg h1]
set_option maxHeartbeats 8000000 in
/-- the constructor of DescriptorTable -/
theorem xm_init (l : Launch) (D : va_G) (cI cZ : ClassId) (h : Nat) : oI dX l yX0_init cX0_init 15 648 D cI cZ h (.int (iI 0) :: List.replicate 15 Value.null) xi0 := by
  intro sz
  refine Met.ofW (cc := cX0_init) (maxL := 2) (ret := none) (by decide) rfl ?_
  intro p e s m args below meth c s₁ B hml hv
  obtain ⟨rfl, hsz, hP, hK, hD0⟩ := hv
  have hts := atoms_spec (ws := ws_ yX0_init cX0_init 2 none) B.pre
  have hts : ∀ w ∈ lw_all, w.before _ s = true := fun w h => hts w (List.mem_cons_of_mem _ h)
  have hown : s.vm.findClass RX0 = some m.cls := findClass_of_methodNamed B.named
  have hin : meth.name = "<init>" := (name_of_methodNamed B.named B.method).1
  have E : mE p s m [Value.ref h].toArray meth c cX0_init 2 none RX0 := ⟨B.exec, B.bytes, hml, hown, hts, B.returns, B.notSynchronized⟩
  have hx := E.1
  have hb := E.2.1
  subst hsz
  have hD := hD0.self (sz := s.heap.size)
  have hA0 : ∀ q, s.heap.size ≤ q → va_A [(h, .inr (dX.1, .int (iI 0) :: List.replicate 15 Value.null))] s.heap.size q := fun q hq => Or.inr hq
  generalize va_A [(h, .inr (dX.1, .int (iI 0) :: List.replicate 15 Value.null))] s.heap.size = A at hD hA0 ⊢
  have hM : kM 0 [.int (iI 0)] D cI cZ h A s [] 15 s.heap [] := ⟨hK, hP, hD, va_S.rf, hA0⟩
  have hl := lv_entry [Value.ref h] (n := 2) (Nat.le_of_ble_eq_true rfl)
  rw [lg_entry_eq]
  generalize (lg_sl ([.ref h]) ++ List.replicate (2 - (lg_sl ([.ref h])).length) Slot.unset).toArray = ls at hl ⊢
  have hl : lv_has ls 2 [(0, .ref h)] := hl
  refine lv_aload_n hx hb dX0_init_0 rfl (lv_at hl 0 rfl) ?_
  refine W.objInit hx hb hown (hts _ q28) (hts _ q29) (hts _ q30) rfl (by rw [hml]; exact hl.1) rfl dX0_init_1 (Nat.le_of_ble_eq_true rfl) (Nat.le_of_ble_eq_true rfl) ?_
  refine W.eq (g2 := F0 m 4 ls []) rfl ?_
  refine lv_aload_n hx hb dX0_init_4 rfl (lv_at hl 0 rfl) ?_
  refine o_iconst hx hb dX0_init_5 ?_
  refine k_mk (ty0 := tyX0) true 4 E hin hM rfl rfl (Nat.le_of_ble_eq_true rfl) (Nat.le_of_ble_eq_true rfl) (Nat.le_of_ble_eq_true rfl) in_X0 tyX0_ok nmX0 rfl 1 (by decide) rfl q32 rfl rfl rfl dX0_init_6 dX0_init_8 (fun q_1 H locs hM => ?_)
  have hM : kM 0 [.int (iI 0)] D cI cZ h A s [(q_1, true, 4)] 14 H locs := hM
  refine lv_aload_n hx hb dX0_init_11 rfl (lv_at hl 0 rfl) ?_
  refine o_bipush hx hb dX0_init_12 (by decide) ?_
  refine k_mk (ty0 := tyX0) false 24 E hin hM rfl rfl (Nat.le_of_ble_eq_true rfl) (Nat.le_of_ble_eq_true rfl) (Nat.le_of_ble_eq_true rfl) in_X0 tyX0_ok nmX0 rfl 2 (by decide) rfl q33 rfl rfl rfl dX0_init_14 dX0_init_16 (fun q_2 H locs hM => ?_)
  have hM : kM 0 [.int (iI 0)] D cI cZ h A s [(q_1, true, 4), (q_2, false, 24)] 13 H locs := hM
  refine lv_aload_n hx hb dX0_init_19 rfl (lv_at hl 0 rfl) ?_
  refine o_bipush hx hb dX0_init_20 (by decide) ?_
  refine k_mk (ty0 := tyX0) false 24 E hin hM rfl rfl (Nat.le_of_ble_eq_true rfl) (Nat.le_of_ble_eq_true rfl) (Nat.le_of_ble_eq_true rfl) in_X0 tyX0_ok nmX0 rfl 3 (by decide) rfl q34 rfl rfl rfl dX0_init_22 dX0_init_24 (fun q_3 H locs hM => ?_)
  have hM : kM 0 [.int (iI 0)] D cI cZ h A s [(q_1, true, 4), (q_2, false, 24), (q_3, false, 24)] 12 H locs := hM
  refine lv_aload_n hx hb dX0_init_27 rfl (lv_at hl 0 rfl) ?_
  refine o_bipush hx hb dX0_init_28 (by decide) ?_
  refine k_mk (ty0 := tyX0) false 24 E hin hM rfl rfl (Nat.le_of_ble_eq_true rfl) (Nat.le_of_ble_eq_true rfl) (Nat.le_of_ble_eq_true rfl) in_X0 tyX0_ok nmX0 rfl 4 (by decide) rfl q35 rfl rfl rfl dX0_init_30 dX0_init_32 (fun q_4 H locs hM => ?_)
  have hM : kM 0 [.int (iI 0)] D cI cZ h A s [(q_1, true, 4), (q_2, false, 24), (q_3, false, 24), (q_4, false, 24)] 11 H locs := hM
  refine lv_aload_n hx hb dX0_init_35 rfl (lv_at hl 0 rfl) ?_
  refine o_bipush hx hb dX0_init_36 (by decide) ?_
  refine k_mk (ty0 := tyX0) false 24 E hin hM rfl rfl (Nat.le_of_ble_eq_true rfl) (Nat.le_of_ble_eq_true rfl) (Nat.le_of_ble_eq_true rfl) in_X0 tyX0_ok nmX0 rfl 5 (by decide) rfl q36 rfl rfl rfl dX0_init_38 dX0_init_40 (fun q_5 H locs hM => ?_)
  have hM : kM 0 [.int (iI 0)] D cI cZ h A s [(q_1, true, 4), (q_2, false, 24), (q_3, false, 24), (q_4, false, 24), (q_5, false, 24)] 10 H locs := hM
  refine lv_aload_n hx hb dX0_init_43 rfl (lv_at hl 0 rfl) ?_
  refine o_bipush hx hb dX0_init_44 (by decide) ?_
  refine k_mk (ty0 := tyX0) false 24 E hin hM rfl rfl (Nat.le_of_ble_eq_true rfl) (Nat.le_of_ble_eq_true rfl) (Nat.le_of_ble_eq_true rfl) in_X0 tyX0_ok nmX0 rfl 6 (by decide) rfl q37 rfl rfl rfl dX0_init_46 dX0_init_48 (fun q_6 H locs hM => ?_)
  have hM : kM 0 [.int (iI 0)] D cI cZ h A s [(q_1, true, 4), (q_2, false, 24), (q_3, false, 24), (q_4, false, 24), (q_5, false, 24), (q_6, false, 24)] 9 H locs := hM
  refine lv_aload_n hx hb dX0_init_51 rfl (lv_at hl 0 rfl) ?_
  refine o_iconst hx hb dX0_init_52 ?_
  refine k_mk (ty0 := tyX0) false 4 E hin hM rfl rfl (Nat.le_of_ble_eq_true rfl) (Nat.le_of_ble_eq_true rfl) (Nat.le_of_ble_eq_true rfl) in_X0 tyX0_ok nmX0 rfl 7 (by decide) rfl q38 rfl rfl rfl dX0_init_53 dX0_init_55 (fun q_7 H locs hM => ?_)
  have hM : kM 0 [.int (iI 0)] D cI cZ h A s [(q_1, true, 4), (q_2, false, 24), (q_3, false, 24), (q_4, false, 24), (q_5, false, 24), (q_6, false, 24), (q_7, false, 4)] 8 H locs := hM
  refine lv_aload_n hx hb dX0_init_58 rfl (lv_at hl 0 rfl) ?_
  refine o_bipush hx hb dX0_init_59 (by decide) ?_
  refine k_mk (ty0 := tyX0) false 28 E hin hM rfl rfl (Nat.le_of_ble_eq_true rfl) (Nat.le_of_ble_eq_true rfl) (Nat.le_of_ble_eq_true rfl) in_X0 tyX0_ok nmX0 rfl 8 (by decide) rfl q39 rfl rfl rfl dX0_init_61 dX0_init_63 (fun q_8 H locs hM => ?_)
  have hM : kM 0 [.int (iI 0)] D cI cZ h A s [(q_1, true, 4), (q_2, false, 24), (q_3, false, 24), (q_4, false, 24), (q_5, false, 24), (q_6, false, 24), (q_7, false, 4), (q_8, false, 28)] 7 H locs := hM
  refine lv_aload_n hx hb dX0_init_66 rfl (lv_at hl 0 rfl) ?_
  refine o_bipush hx hb dX0_init_67 (by decide) ?_
  refine k_mk (ty0 := tyX0) false 28 E hin hM rfl rfl (Nat.le_of_ble_eq_true rfl) (Nat.le_of_ble_eq_true rfl) (Nat.le_of_ble_eq_true rfl) in_X0 tyX0_ok nmX0 rfl 9 (by decide) rfl q40 rfl rfl rfl dX0_init_69 dX0_init_71 (fun q_9 H locs hM => ?_)
  have hM : kM 0 [.int (iI 0)] D cI cZ h A s [(q_1, true, 4), (q_2, false, 24), (q_3, false, 24), (q_4, false, 24), (q_5, false, 24), (q_6, false, 24), (q_7, false, 4), (q_8, false, 28), (q_9, false, 28)] 6 H locs := hM
  refine lv_aload_n hx hb dX0_init_74 rfl (lv_at hl 0 rfl) ?_
  refine o_sipush hx hb dX0_init_75 (by decide) ?_
  refine k_mk (ty0 := tyX0) false 224 E hin hM rfl rfl (Nat.le_of_ble_eq_true rfl) (Nat.le_of_ble_eq_true rfl) (Nat.le_of_ble_eq_true rfl) in_X0 tyX0_ok nmX0 rfl 10 (by decide) rfl q41 rfl rfl rfl dX0_init_78 dX0_init_80 (fun q_10 H locs hM => ?_)
  have hM : kM 0 [.int (iI 0)] D cI cZ h A s [(q_1, true, 4), (q_2, false, 24), (q_3, false, 24), (q_4, false, 24), (q_5, false, 24), (q_6, false, 24), (q_7, false, 4), (q_8, false, 28), (q_9, false, 28), (q_10, false, 224)] 5 H locs := hM
  refine lv_aload_n hx hb dX0_init_83 rfl (lv_at hl 0 rfl) ?_
  refine o_bipush hx hb dX0_init_84 (by decide) ?_
  refine k_mk (ty0 := tyX0) true 24 E hin hM rfl rfl (Nat.le_of_ble_eq_true rfl) (Nat.le_of_ble_eq_true rfl) (Nat.le_of_ble_eq_true rfl) in_X0 tyX0_ok nmX0 rfl 11 (by decide) rfl q42 rfl rfl rfl dX0_init_86 dX0_init_88 (fun q_11 H locs hM => ?_)
  have hM : kM 0 [.int (iI 0)] D cI cZ h A s [(q_1, true, 4), (q_2, false, 24), (q_3, false, 24), (q_4, false, 24), (q_5, false, 24), (q_6, false, 24), (q_7, false, 4), (q_8, false, 28), (q_9, false, 28), (q_10, false, 224), (q_11, true, 24)] 4 H locs := hM
  refine lv_aload_n hx hb dX0_init_91 rfl (lv_at hl 0 rfl) ?_
  refine o_bipush hx hb dX0_init_92 (by decide) ?_
  refine k_mk (ty0 := tyX0) true 24 E hin hM rfl rfl (Nat.le_of_ble_eq_true rfl) (Nat.le_of_ble_eq_true rfl) (Nat.le_of_ble_eq_true rfl) in_X0 tyX0_ok nmX0 rfl 12 (by decide) rfl q43 rfl rfl rfl dX0_init_94 dX0_init_96 (fun q_12 H locs hM => ?_)
  have hM : kM 0 [.int (iI 0)] D cI cZ h A s [(q_1, true, 4), (q_2, false, 24), (q_3, false, 24), (q_4, false, 24), (q_5, false, 24), (q_6, false, 24), (q_7, false, 4), (q_8, false, 28), (q_9, false, 28), (q_10, false, 224), (q_11, true, 24), (q_12, true, 24)] 3 H locs := hM
  refine lv_aload_n hx hb dX0_init_99 rfl (lv_at hl 0 rfl) ?_
  refine o_bipush hx hb dX0_init_100 (by decide) ?_
  refine k_mk (ty0 := tyX0) false 24 E hin hM rfl rfl (Nat.le_of_ble_eq_true rfl) (Nat.le_of_ble_eq_true rfl) (Nat.le_of_ble_eq_true rfl) in_X0 tyX0_ok nmX0 rfl 13 (by decide) rfl q44 rfl rfl rfl dX0_init_102 dX0_init_104 (fun q_13 H locs hM => ?_)
  have hM : kM 0 [.int (iI 0)] D cI cZ h A s [(q_1, true, 4), (q_2, false, 24), (q_3, false, 24), (q_4, false, 24), (q_5, false, 24), (q_6, false, 24), (q_7, false, 4), (q_8, false, 28), (q_9, false, 28), (q_10, false, 224), (q_11, true, 24), (q_12, true, 24), (q_13, false, 24)] 2 H locs := hM
  refine lv_aload_n hx hb dX0_init_107 rfl (lv_at hl 0 rfl) ?_
  refine o_bipush hx hb dX0_init_108 (by decide) ?_
  refine k_mk (ty0 := tyX0) false 24 E hin hM rfl rfl (Nat.le_of_ble_eq_true rfl) (Nat.le_of_ble_eq_true rfl) (Nat.le_of_ble_eq_true rfl) in_X0 tyX0_ok nmX0 rfl 14 (by decide) rfl q45 rfl rfl rfl dX0_init_110 dX0_init_112 (fun q_14 H locs hM => ?_)
  have hM : kM 0 [.int (iI 0)] D cI cZ h A s [(q_1, true, 4), (q_2, false, 24), (q_3, false, 24), (q_4, false, 24), (q_5, false, 24), (q_6, false, 24), (q_7, false, 4), (q_8, false, 28), (q_9, false, 28), (q_10, false, 224), (q_11, true, 24), (q_12, true, 24), (q_13, false, 24), (q_14, false, 24)] 1 H locs := hM
  refine lv_aload_n hx hb dX0_init_115 rfl (lv_at hl 0 rfl) ?_
  refine o_sipush hx hb dX0_init_116 (by decide) ?_
  refine k_mk (ty0 := tyX0) false 144 E hin hM rfl rfl (Nat.le_of_ble_eq_true rfl) (Nat.le_of_ble_eq_true rfl) (Nat.le_of_ble_eq_true rfl) in_X0 tyX0_ok nmX0 rfl 15 (by decide) rfl q46 rfl rfl rfl dX0_init_119 dX0_init_121 (fun q_15 H locs hM => ?_)
  have hM : kM 0 [.int (iI 0)] D cI cZ h A s [(q_1, true, 4), (q_2, false, 24), (q_3, false, 24), (q_4, false, 24), (q_5, false, 24), (q_6, false, 24), (q_7, false, 4), (q_8, false, 28), (q_9, false, 28), (q_10, false, 224), (q_11, true, 24), (q_12, true, 24), (q_13, false, 24), (q_14, false, 24), (q_15, false, 144)] 0 H locs := hM
  refine W.widen (k := 15) (n := 648) (by decide) (by decide) ?_
  obtain ⟨a, ha⟩ : ∃ a : Nat → Nat, a = fun k => [q_1, q_2, q_3, q_4, q_5, q_6, q_7, q_8, q_9, q_10, q_11, q_12, q_13, q_14, q_15].getD (k - 1) 0 := ⟨_, rfl⟩
  have ew : kW 0 [.int (iI 0)] cI cZ h [(q_1, true, 4), (q_2, false, 24), (q_3, false, 24), (q_4, false, 24), (q_5, false, 24), (q_6, false, 24), (q_7, false, 4), (q_8, false, 28), (q_9, false, 28), (q_10, false, 224), (q_11, true, 24), (q_12, true, 24), (q_13, false, 24), (q_14, false, 24), (q_15, false, 144)] 0 = oW dX cI cZ h a oz := by rw [ha]; rfl
  have hW : mW dX D cI cZ h a A s oz H locs := by
    obtain ⟨g1, g2, g3, g4, g5⟩ := hM
    rw [ew] at g2 g3
    exact ⟨g1, g2, g3, g4, g5⟩
  clear hM ew ha
  refine o_iconst hx hb dX0_init_124 ?_
  refine lv_istore_n (lv' := [(1, .int (iI 0)), (0, .ref h)]) hx hb dX0_init_125 rfl hl (by decide) rfl (fun ls hl => ?_)
  have lp_126 : ∀ (n : Nat) (d : Int)  (Y : oS) (H : Heap) (locs : List Loc) (ls : Array Slot), 24 - d < (n : Int) → (0 ≤ d ∧ d ≤ 24) → (Y = fl oz 2 d) → mW dX D cI cZ h a A s Y H locs → lv_has ls 2 [(0, .ref h), (1, .int (iI d))] → W p l e ({ frames := 1, cells := 15, slots := 648, locals := 12 }) s m [Value.ref h].toArray below meth c H locs 15 648 (MQ below (va_Qv (fun u : (Nat → Nat) × oS => xi0 u.2) (fun u t => va_P D vwCl (oW dX cI cZ h u.1 u.2) t.heap ∧ va_K D vwCl [(cI, .int), (cZ, .boolean)] t ∧ va_D A (oW dX cI cZ h u.1 u.2)) A) [Value.ref h].toArray s 15 648 A) (F0 m 126 ls []) := by
    intro n
    induction n with
    | zero =>
      intro d Y H locs ls hn hd hY hW hl
      exfalso
      omega
    | succ n ih =>
      intro d Y H locs ls hn hd hY hW hl
      refine lv_iload_n hx hb dX0_init_126 rfl (lv_at hl 1 rfl) ?_
      refine o_bipush hx hb dX0_init_127 (by decide) ?_
      refine o_cge (tgt := 145) hx hb dX0_init_129 (by decide) (by omega) (by omega) (fun c_129 => ?_) (fun c_129 => ?_)
      · refine o_iconst hx hb dX0_init_145 ?_
        refine lv_istore_n (lv' := [(1, .int (iI 0)), (0, .ref h)]) hx hb dX0_init_146 rfl hl (by decide) rfl (fun ls hl => ?_)
        have lp_147 : ∀ (n : Nat) (f : Int)  (Z : oS) (H : Heap) (locs : List Loc) (ls : Array Slot), 4 - f < (n : Int) → (0 ≤ f ∧ f ≤ 4) → (Z = fl Y 7 f) → mW dX D cI cZ h a A s Z H locs → lv_has ls 2 [(0, .ref h), (1, .int (iI f))] → W p l e ({ frames := 1, cells := 15, slots := 648, locals := 12 }) s m [Value.ref h].toArray below meth c H locs 15 648 (MQ below (va_Qv (fun u : (Nat → Nat) × oS => xi0 u.2) (fun u t => va_P D vwCl (oW dX cI cZ h u.1 u.2) t.heap ∧ va_K D vwCl [(cI, .int), (cZ, .boolean)] t ∧ va_D A (oW dX cI cZ h u.1 u.2)) A) [Value.ref h].toArray s 15 648 A) (F0 m 147 ls []) := by
          intro n
          induction n with
          | zero =>
            intro f Z H locs ls hn hd hZ hW hl
            exfalso
            omega
          | succ n ih =>
            intro f Z H locs ls hn hd hZ hW hl
            refine lv_iload_n hx hb dX0_init_147 rfl (lv_at hl 1 rfl) ?_
            refine o_iconst hx hb dX0_init_148 ?_
            refine o_cge (tgt := 165) hx hb dX0_init_149 (by decide) (by omega) (by omega) (fun c_149 => ?_) (fun c_149 => ?_)
            · refine lv_aload_n hx hb dX0_init_165 rfl (lv_at hl 0 rfl) ?_
              refine o_get E hW in_X0 rfl 1 (by decide) (v := .ref (a 1)) rfl q32 rfl dX0_init_166 ?_
              refine o_iconst hx hb dX0_init_169 ?_
              refine o_iconst hx hb dX0_init_170 ?_
              refine o_zst E hW 1 ⟨by decide, rfl⟩ (by omega) (by omega) (by decide) (by decide) dX0_init_171 (fun H locs hW => ?_)
              refine lv_aload_n hx hb dX0_init_172 rfl (lv_at hl 0 rfl) ?_
              refine o_iconst hx hb dX0_init_173 ?_
              refine x_putL E hW q31 dX0_init_174 (fun H locs hW => ?_)
              exact W.vret E.1 E.2.1 E.2.2.2.2.2.1 (fun t ht hw => ⟨⟨(a, (su (su Z 1 0 1) 0 0 1)), rfl, xi_of hY hZ (by omega) (by omega), by rw [ht]; exact hW.2.1, va_K.moved hw.alike hW.1, hW.2.2.1⟩, hW.2.2.2.1.F ht⟩) hW.2.2.2.1.2.2 dX0_init_177 (hlocks := E.2.2.2.2.2.2)
            · refine lv_aload_n hx hb dX0_init_152 rfl (lv_at hl 0 rfl) ?_
              refine o_get E hW in_X0 rfl 7 (by decide) (v := .ref (a 7)) rfl q38 rfl dX0_init_153 ?_
              refine lv_iload_n hx hb dX0_init_156 rfl (lv_at hl 1 rfl) ?_
              refine o_iconst hx hb dX0_init_157 ?_
              refine o_st E hW 7 ⟨by decide, rfl⟩ (by omega) (by omega) (by decide) dX0_init_158 (fun H locs hW => ?_)
              refine o_iinc (lv' := [(1, .int (iI (f + 1))), (0, .ref h)]) hx hb dX0_init_159 hl (k := 1) rfl (by decide) rfl (fun ls hl => ?_)
              refine lv_goto (tgt := 147) hx hb dX0_init_162 (by decide) ?_
              exact ih (f + 1)  (su Z 7 f (-1)) _ _ _ (by omega) ⟨by omega, by omega⟩ (fl_s hZ (by omega)) hW (lv_sub hl [1, 0] rfl)
        exact lp_147 5 0  Y _ _ _ (by omega) ⟨by omega, by omega⟩ fl_0 hW (lv_sub hl [1, 0] rfl)
      · refine lv_aload_n hx hb dX0_init_132 rfl (lv_at hl 0 rfl) ?_
        refine o_get E hW in_X0 rfl 2 (by decide) (v := .ref (a 2)) rfl q33 rfl dX0_init_133 ?_
        refine lv_iload_n hx hb dX0_init_136 rfl (lv_at hl 1 rfl) ?_
        refine o_iconst hx hb dX0_init_137 ?_
        refine o_st E hW 2 ⟨by decide, rfl⟩ (by omega) (by omega) (by decide) dX0_init_138 (fun H locs hW => ?_)
        refine o_iinc (lv' := [(1, .int (iI (d + 1))), (0, .ref h)]) hx hb dX0_init_139 hl (k := 1) rfl (by decide) rfl (fun ls hl => ?_)
        refine lv_goto (tgt := 126) hx hb dX0_init_142 (by decide) ?_
        exact ih (d + 1)  (su Y 2 d (-1)) _ _ _ (by omega) ⟨by omega, by omega⟩ (fl_s hY (by omega)) hW (lv_sub hl [1, 0] rfl)
  exact lp_126 25 0  oz _ _ _ (by omega) ⟨by omega, by omega⟩ fl_0 hW (lv_sub hl [1, 0] rfl)
set_option maxHeartbeats 8000000 in
/-- the constructor of DescriptorTableModel -/
theorem mm_init (l : Launch) (D : va_G) (cI cZ : ClassId) (h : Nat) : oI dM l yX1_init cX1_init 10 524 D cI cZ h (List.replicate 10 Value.null) mi0 := by
  intro sz
  refine Met.ofW (cc := cX1_init) (maxL := 2) (ret := none) (by decide) rfl ?_
  intro p e s m args below meth c s₁ B hml hv
  obtain ⟨rfl, hsz, hP, hK, hD0⟩ := hv
  have hts := atoms_spec (ws := ws_ yX1_init cX1_init 2 none) B.pre
  have hts : ∀ w ∈ lw_all, w.before _ s = true := fun w h => hts w (List.mem_cons_of_mem _ h)
  have hown : s.vm.findClass RX1 = some m.cls := findClass_of_methodNamed B.named
  have hin : meth.name = "<init>" := (name_of_methodNamed B.named B.method).1
  have E : mE p s m [Value.ref h].toArray meth c cX1_init 2 none RX1 := ⟨B.exec, B.bytes, hml, hown, hts, B.returns, B.notSynchronized⟩
  have hx := E.1
  have hb := E.2.1
  subst hsz
  have hD := hD0.self (sz := s.heap.size)
  have hA0 : ∀ q, s.heap.size ≤ q → va_A [(h, .inr (dM.1, List.replicate 10 Value.null))] s.heap.size q := fun q hq => Or.inr hq
  generalize va_A [(h, .inr (dM.1, List.replicate 10 Value.null))] s.heap.size = A at hD hA0 ⊢
  have hM : kM 1 [] D cI cZ h A s [] 10 s.heap [] := ⟨hK, hP, hD, va_S.rf, hA0⟩
  have hl := lv_entry [Value.ref h] (n := 2) (Nat.le_of_ble_eq_true rfl)
  rw [lg_entry_eq]
  generalize (lg_sl ([.ref h]) ++ List.replicate (2 - (lg_sl ([.ref h])).length) Slot.unset).toArray = ls at hl ⊢
  have hl : lv_has ls 2 [(0, .ref h)] := hl
  refine lv_aload_n hx hb dX1_init_0 rfl (lv_at hl 0 rfl) ?_
  refine W.objInit hx hb hown (hts _ q182) (hts _ q29) (hts _ q30) rfl (by rw [hml]; exact hl.1) rfl dX1_init_1 (Nat.le_of_ble_eq_true rfl) (Nat.le_of_ble_eq_true rfl) ?_
  refine W.eq (g2 := F0 m 4 ls []) rfl ?_
  refine lv_aload_n hx hb dX1_init_4 rfl (lv_at hl 0 rfl) ?_
  refine o_iconst hx hb dX1_init_5 ?_
  refine k_mk (ty0 := tyX1) true 4 E hin hM rfl rfl (Nat.le_of_ble_eq_true rfl) (Nat.le_of_ble_eq_true rfl) (Nat.le_of_ble_eq_true rfl) in_X1 tyX1_ok nmX1 rfl 0 (by decide) rfl q183 rfl rfl rfl dX1_init_6 dX1_init_8 (fun q_1 H locs hM => ?_)
  have hM : kM 1 [] D cI cZ h A s [(q_1, true, 4)] 9 H locs := hM
  refine lv_aload_n hx hb dX1_init_11 rfl (lv_at hl 0 rfl) ?_
  refine o_bipush hx hb dX1_init_12 (by decide) ?_
  refine k_mk (ty0 := tyX1) false 24 E hin hM rfl rfl (Nat.le_of_ble_eq_true rfl) (Nat.le_of_ble_eq_true rfl) (Nat.le_of_ble_eq_true rfl) in_X1 tyX1_ok nmX1 rfl 1 (by decide) rfl q184 rfl rfl rfl dX1_init_14 dX1_init_16 (fun q_2 H locs hM => ?_)
  have hM : kM 1 [] D cI cZ h A s [(q_1, true, 4), (q_2, false, 24)] 8 H locs := hM
  refine lv_aload_n hx hb dX1_init_19 rfl (lv_at hl 0 rfl) ?_
  refine o_bipush hx hb dX1_init_20 (by decide) ?_
  refine k_mk (ty0 := tyX1) false 24 E hin hM rfl rfl (Nat.le_of_ble_eq_true rfl) (Nat.le_of_ble_eq_true rfl) (Nat.le_of_ble_eq_true rfl) in_X1 tyX1_ok nmX1 rfl 2 (by decide) rfl q185 rfl rfl rfl dX1_init_22 dX1_init_24 (fun q_3 H locs hM => ?_)
  have hM : kM 1 [] D cI cZ h A s [(q_1, true, 4), (q_2, false, 24), (q_3, false, 24)] 7 H locs := hM
  refine lv_aload_n hx hb dX1_init_27 rfl (lv_at hl 0 rfl) ?_
  refine o_bipush hx hb dX1_init_28 (by decide) ?_
  refine k_mk (ty0 := tyX1) false 24 E hin hM rfl rfl (Nat.le_of_ble_eq_true rfl) (Nat.le_of_ble_eq_true rfl) (Nat.le_of_ble_eq_true rfl) in_X1 tyX1_ok nmX1 rfl 3 (by decide) rfl q186 rfl rfl rfl dX1_init_30 dX1_init_32 (fun q_4 H locs hM => ?_)
  have hM : kM 1 [] D cI cZ h A s [(q_1, true, 4), (q_2, false, 24), (q_3, false, 24), (q_4, false, 24)] 6 H locs := hM
  refine lv_aload_n hx hb dX1_init_35 rfl (lv_at hl 0 rfl) ?_
  refine o_bipush hx hb dX1_init_36 (by decide) ?_
  refine k_mk (ty0 := tyX1) false 24 E hin hM rfl rfl (Nat.le_of_ble_eq_true rfl) (Nat.le_of_ble_eq_true rfl) (Nat.le_of_ble_eq_true rfl) in_X1 tyX1_ok nmX1 rfl 4 (by decide) rfl q187 rfl rfl rfl dX1_init_38 dX1_init_40 (fun q_5 H locs hM => ?_)
  have hM : kM 1 [] D cI cZ h A s [(q_1, true, 4), (q_2, false, 24), (q_3, false, 24), (q_4, false, 24), (q_5, false, 24)] 5 H locs := hM
  refine lv_aload_n hx hb dX1_init_43 rfl (lv_at hl 0 rfl) ?_
  refine o_iconst hx hb dX1_init_44 ?_
  refine k_mk (ty0 := tyX1) false 4 E hin hM rfl rfl (Nat.le_of_ble_eq_true rfl) (Nat.le_of_ble_eq_true rfl) (Nat.le_of_ble_eq_true rfl) in_X1 tyX1_ok nmX1 rfl 5 (by decide) rfl q188 rfl rfl rfl dX1_init_45 dX1_init_47 (fun q_6 H locs hM => ?_)
  have hM : kM 1 [] D cI cZ h A s [(q_1, true, 4), (q_2, false, 24), (q_3, false, 24), (q_4, false, 24), (q_5, false, 24), (q_6, false, 4)] 4 H locs := hM
  refine lv_aload_n hx hb dX1_init_50 rfl (lv_at hl 0 rfl) ?_
  refine o_bipush hx hb dX1_init_51 (by decide) ?_
  refine k_mk (ty0 := tyX1) false 28 E hin hM rfl rfl (Nat.le_of_ble_eq_true rfl) (Nat.le_of_ble_eq_true rfl) (Nat.le_of_ble_eq_true rfl) in_X1 tyX1_ok nmX1 rfl 6 (by decide) rfl q189 rfl rfl rfl dX1_init_53 dX1_init_55 (fun q_7 H locs hM => ?_)
  have hM : kM 1 [] D cI cZ h A s [(q_1, true, 4), (q_2, false, 24), (q_3, false, 24), (q_4, false, 24), (q_5, false, 24), (q_6, false, 4), (q_7, false, 28)] 3 H locs := hM
  refine lv_aload_n hx hb dX1_init_58 rfl (lv_at hl 0 rfl) ?_
  refine o_sipush hx hb dX1_init_59 (by decide) ?_
  refine k_mk (ty0 := tyX1) false 224 E hin hM rfl rfl (Nat.le_of_ble_eq_true rfl) (Nat.le_of_ble_eq_true rfl) (Nat.le_of_ble_eq_true rfl) in_X1 tyX1_ok nmX1 rfl 7 (by decide) rfl q190 rfl rfl rfl dX1_init_62 dX1_init_64 (fun q_8 H locs hM => ?_)
  have hM : kM 1 [] D cI cZ h A s [(q_1, true, 4), (q_2, false, 24), (q_3, false, 24), (q_4, false, 24), (q_5, false, 24), (q_6, false, 4), (q_7, false, 28), (q_8, false, 224)] 2 H locs := hM
  refine lv_aload_n hx hb dX1_init_67 rfl (lv_at hl 0 rfl) ?_
  refine o_bipush hx hb dX1_init_68 (by decide) ?_
  refine k_mk (ty0 := tyX1) false 24 E hin hM rfl rfl (Nat.le_of_ble_eq_true rfl) (Nat.le_of_ble_eq_true rfl) (Nat.le_of_ble_eq_true rfl) in_X1 tyX1_ok nmX1 rfl 8 (by decide) rfl q191 rfl rfl rfl dX1_init_70 dX1_init_72 (fun q_9 H locs hM => ?_)
  have hM : kM 1 [] D cI cZ h A s [(q_1, true, 4), (q_2, false, 24), (q_3, false, 24), (q_4, false, 24), (q_5, false, 24), (q_6, false, 4), (q_7, false, 28), (q_8, false, 224), (q_9, false, 24)] 1 H locs := hM
  refine lv_aload_n hx hb dX1_init_75 rfl (lv_at hl 0 rfl) ?_
  refine o_sipush hx hb dX1_init_76 (by decide) ?_
  refine k_mk (ty0 := tyX1) false 144 E hin hM rfl rfl (Nat.le_of_ble_eq_true rfl) (Nat.le_of_ble_eq_true rfl) (Nat.le_of_ble_eq_true rfl) in_X1 tyX1_ok nmX1 rfl 9 (by decide) rfl q192 rfl rfl rfl dX1_init_79 dX1_init_81 (fun q_10 H locs hM => ?_)
  have hM : kM 1 [] D cI cZ h A s [(q_1, true, 4), (q_2, false, 24), (q_3, false, 24), (q_4, false, 24), (q_5, false, 24), (q_6, false, 4), (q_7, false, 28), (q_8, false, 224), (q_9, false, 24), (q_10, false, 144)] 0 H locs := hM
  refine W.widen (k := 10) (n := 524) (by decide) (by decide) ?_
  obtain ⟨a, ha⟩ : ∃ a : Nat → Nat, a = fun k => [q_1, q_2, q_3, q_4, q_5, q_6, q_7, q_8, q_9, q_10].getD (k - 1) 0 := ⟨_, rfl⟩
  have ew : kW 1 [] cI cZ h [(q_1, true, 4), (q_2, false, 24), (q_3, false, 24), (q_4, false, 24), (q_5, false, 24), (q_6, false, 4), (q_7, false, 28), (q_8, false, 224), (q_9, false, 24), (q_10, false, 144)] 0 = oW dM cI cZ h a oz := by rw [ha]; rfl
  have hW : mW dM D cI cZ h a A s oz H locs := by
    obtain ⟨g1, g2, g3, g4, g5⟩ := hM
    rw [ew] at g2 g3
    exact ⟨g1, g2, g3, g4, g5⟩
  clear hM ew ha
  refine lv_aload_n hx hb dX1_init_84 rfl (lv_at hl 0 rfl) ?_
  refine o_get E hW in_X1 rfl 0 (by decide) (v := .ref (a 1)) rfl q183 rfl dX1_init_85 ?_
  refine o_iconst hx hb dX1_init_88 ?_
  refine o_iconst hx hb dX1_init_89 ?_
  refine o_zst E hW 1 ⟨by decide, rfl⟩ (by omega) (by omega) (by decide) (by decide) dX1_init_90 (fun H locs hW => ?_)
  refine o_iconst hx hb dX1_init_91 ?_
  refine lv_istore_n (lv' := [(1, .int (iI 0)), (0, .ref h)]) hx hb dX1_init_92 rfl hl (by decide) rfl (fun ls hl => ?_)
  have lp_93 : ∀ (n : Nat) (d : Int)  (Y : oS) (H : Heap) (locs : List Loc) (ls : Array Slot), 24 - d < (n : Int) → (0 ≤ d ∧ d ≤ 24) → (Y = fl (su oz 1 0 1) 2 d) → mW dM D cI cZ h a A s Y H locs → lv_has ls 2 [(0, .ref h), (1, .int (iI d))] → W p l e ({ frames := 1, cells := 10, slots := 524, locals := 12 }) s m [Value.ref h].toArray below meth c H locs 10 524 (MQ below (va_Qv (fun u : (Nat → Nat) × oS => mi0 u.2) (fun u t => va_P D vwCl (oW dM cI cZ h u.1 u.2) t.heap ∧ va_K D vwCl [(cI, .int), (cZ, .boolean)] t ∧ va_D A (oW dM cI cZ h u.1 u.2)) A) [Value.ref h].toArray s 10 524 A) (F0 m 93 ls []) := by
    intro n
    induction n with
    | zero =>
      intro d Y H locs ls hn hd hY hW hl
      exfalso
      omega
    | succ n ih =>
      intro d Y H locs ls hn hd hY hW hl
      refine lv_iload_n hx hb dX1_init_93 rfl (lv_at hl 1 rfl) ?_
      refine o_bipush hx hb dX1_init_94 (by decide) ?_
      refine o_cge (tgt := 112) hx hb dX1_init_96 (by decide) (by omega) (by omega) (fun c_96 => ?_) (fun c_96 => ?_)
      · refine o_iconst hx hb dX1_init_112 ?_
        refine lv_istore_n (lv' := [(1, .int (iI 0)), (0, .ref h)]) hx hb dX1_init_113 rfl hl (by decide) rfl (fun ls hl => ?_)
        have lp_114 : ∀ (n : Nat) (f : Int)  (Z : oS) (H : Heap) (locs : List Loc) (ls : Array Slot), 4 - f < (n : Int) → (0 ≤ f ∧ f ≤ 4) → (Z = fl Y 6 f) → mW dM D cI cZ h a A s Z H locs → lv_has ls 2 [(0, .ref h), (1, .int (iI f))] → W p l e ({ frames := 1, cells := 10, slots := 524, locals := 12 }) s m [Value.ref h].toArray below meth c H locs 10 524 (MQ below (va_Qv (fun u : (Nat → Nat) × oS => mi0 u.2) (fun u t => va_P D vwCl (oW dM cI cZ h u.1 u.2) t.heap ∧ va_K D vwCl [(cI, .int), (cZ, .boolean)] t ∧ va_D A (oW dM cI cZ h u.1 u.2)) A) [Value.ref h].toArray s 10 524 A) (F0 m 114 ls []) := by
          intro n
          induction n with
          | zero =>
            intro f Z H locs ls hn hd hZ hW hl
            exfalso
            omega
          | succ n ih =>
            intro f Z H locs ls hn hd hZ hW hl
            refine lv_iload_n hx hb dX1_init_114 rfl (lv_at hl 1 rfl) ?_
            refine o_iconst hx hb dX1_init_115 ?_
            refine o_cge (tgt := 132) hx hb dX1_init_116 (by decide) (by omega) (by omega) (fun c_116 => ?_) (fun c_116 => ?_)
            · exact W.vret E.1 E.2.1 E.2.2.2.2.2.1 (fun t ht hw => ⟨⟨(a, Z), rfl, mi_of hY hZ (by omega) (by omega), by rw [ht]; exact hW.2.1, va_K.moved hw.alike hW.1, hW.2.2.1⟩, hW.2.2.2.1.F ht⟩) hW.2.2.2.1.2.2 dX1_init_132 (hlocks := E.2.2.2.2.2.2)
            · refine lv_aload_n hx hb dX1_init_119 rfl (lv_at hl 0 rfl) ?_
              refine o_get E hW in_X1 rfl 5 (by decide) (v := .ref (a 6)) rfl q188 rfl dX1_init_120 ?_
              refine lv_iload_n hx hb dX1_init_123 rfl (lv_at hl 1 rfl) ?_
              refine o_iconst hx hb dX1_init_124 ?_
              refine o_st E hW 6 ⟨by decide, rfl⟩ (by omega) (by omega) (by decide) dX1_init_125 (fun H locs hW => ?_)
              refine o_iinc (lv' := [(1, .int (iI (f + 1))), (0, .ref h)]) hx hb dX1_init_126 hl (k := 1) rfl (by decide) rfl (fun ls hl => ?_)
              refine lv_goto (tgt := 114) hx hb dX1_init_129 (by decide) ?_
              exact ih (f + 1)  (su Z 6 f (-1)) _ _ _ (by omega) ⟨by omega, by omega⟩ (fl_s hZ (by omega)) hW (lv_sub hl [1, 0] rfl)
        exact lp_114 5 0  Y _ _ _ (by omega) ⟨by omega, by omega⟩ fl_0 hW (lv_sub hl [1, 0] rfl)
      · refine lv_aload_n hx hb dX1_init_99 rfl (lv_at hl 0 rfl) ?_
        refine o_get E hW in_X1 rfl 1 (by decide) (v := .ref (a 2)) rfl q184 rfl dX1_init_100 ?_
        refine lv_iload_n hx hb dX1_init_103 rfl (lv_at hl 1 rfl) ?_
        refine o_iconst hx hb dX1_init_104 ?_
        refine o_st E hW 2 ⟨by decide, rfl⟩ (by omega) (by omega) (by decide) dX1_init_105 (fun H locs hW => ?_)
        refine o_iinc (lv' := [(1, .int (iI (d + 1))), (0, .ref h)]) hx hb dX1_init_106 hl (k := 1) rfl (by decide) rfl (fun ls hl => ?_)
        refine lv_goto (tgt := 93) hx hb dX1_init_109 (by decide) ?_
        exact ih (d + 1)  (su Y 2 d (-1)) _ _ _ (by omega) ⟨by omega, by omega⟩ (fl_s hY (by omega)) hW (lv_sub hl [1, 0] rfl)
  exact lp_93 25 0  (su oz 1 0 1) _ _ _ (by omega) ⟨by omega, by omega⟩ fl_0 hW (lv_sub hl [1, 0] rfl)
end
section
/-! the law's own entry -/
set_option maxRecDepth 100000
abbrev cL_law : ByteArray := code
theorem dL_law_0 : decode cL_law 0 = .ok (.new 7, 3) := by decide +kernel
theorem dL_law_3 : decode cL_law 3 = .ok (.dup, 1) := by decide +kernel
theorem dL_law_4 : decode cL_law 4 = .ok (.invokespecial 9, 3) := by decide +kernel
theorem dL_law_7 : decode cL_law 7 = .ok (.astore_n 1, 1) := by decide +kernel
theorem dL_law_8 : decode cL_law 8 = .ok (.new 10, 3) := by decide +kernel
theorem dL_law_11 : decode cL_law 11 = .ok (.dup, 1) := by decide +kernel
theorem dL_law_12 : decode cL_law 12 = .ok (.invokespecial 12, 3) := by decide +kernel
theorem dL_law_15 : decode cL_law 15 = .ok (.astore_n 2, 1) := by decide +kernel
theorem dL_law_16 : decode cL_law 16 = .ok (.iconst 0, 1) := by decide +kernel
theorem dL_law_17 : decode cL_law 17 = .ok (.istore_n 3, 1) := by decide +kernel
theorem dL_law_18 : decode cL_law 18 = .ok (.iload_n 3, 1) := by decide +kernel
theorem dL_law_19 : decode cL_law 19 = .ok (.aload_n 0, 1) := by decide +kernel
theorem dL_law_20 : decode cL_law 20 = .ok (.arraylength, 1) := by decide +kernel
theorem dL_law_21 : decode cL_law 21 = .ok (.iconst 4, 1) := by decide +kernel
theorem dL_law_22 : decode cL_law 22 = .ok (.isub, 1) := by decide +kernel
theorem dL_law_23 : decode cL_law 23 = .ok (.if_icmp .gt 435, 3) := by decide +kernel
theorem dL_law_26 : decode cL_law 26 = .ok (.aload_n 0, 1) := by decide +kernel
theorem dL_law_27 : decode cL_law 27 = .ok (.iload_n 3, 1) := by decide +kernel
theorem dL_law_28 : decode cL_law 28 = .ok (.iaload, 1) := by decide +kernel
theorem dL_law_29 : decode cL_law 29 = .ok (.bipush 15, 2) := by decide +kernel
theorem dL_law_31 : decode cL_law 31 = .ok (.iand, 1) := by decide +kernel
theorem dL_law_32 : decode cL_law 32 = .ok (.tableswitch 420 0 11 #[64, 97, 120, 153, 186, 209, 232, 275, 308, 351, 384, 407], 64) := by decide +kernel
theorem dL_law_96 : decode cL_law 96 = .ok (.aload_n 1, 1) := by decide +kernel
theorem dL_law_97 : decode cL_law 97 = .ok (.aload_n 0, 1) := by decide +kernel
theorem dL_law_98 : decode cL_law 98 = .ok (.iload_n 3, 1) := by decide +kernel
theorem dL_law_99 : decode cL_law 99 = .ok (.iconst 1, 1) := by decide +kernel
theorem dL_law_100 : decode cL_law 100 = .ok (.iadd, 1) := by decide +kernel
theorem dL_law_101 : decode cL_law 101 = .ok (.iaload, 1) := by decide +kernel
theorem dL_law_102 : decode cL_law 102 = .ok (.aload_n 0, 1) := by decide +kernel
theorem dL_law_103 : decode cL_law 103 = .ok (.iload_n 3, 1) := by decide +kernel
theorem dL_law_104 : decode cL_law 104 = .ok (.iconst 2, 1) := by decide +kernel
theorem dL_law_105 : decode cL_law 105 = .ok (.iadd, 1) := by decide +kernel
theorem dL_law_106 : decode cL_law 106 = .ok (.iaload, 1) := by decide +kernel
theorem dL_law_107 : decode cL_law 107 = .ok (.invokevirtual 13, 3) := by decide +kernel
theorem dL_law_110 : decode cL_law 110 = .ok (.aload_n 2, 1) := by decide +kernel
theorem dL_law_111 : decode cL_law 111 = .ok (.aload_n 0, 1) := by decide +kernel
theorem dL_law_112 : decode cL_law 112 = .ok (.iload_n 3, 1) := by decide +kernel
theorem dL_law_113 : decode cL_law 113 = .ok (.iconst 1, 1) := by decide +kernel
theorem dL_law_114 : decode cL_law 114 = .ok (.iadd, 1) := by decide +kernel
theorem dL_law_115 : decode cL_law 115 = .ok (.iaload, 1) := by decide +kernel
theorem dL_law_116 : decode cL_law 116 = .ok (.aload_n 0, 1) := by decide +kernel
theorem dL_law_117 : decode cL_law 117 = .ok (.iload_n 3, 1) := by decide +kernel
theorem dL_law_118 : decode cL_law 118 = .ok (.iconst 2, 1) := by decide +kernel
theorem dL_law_119 : decode cL_law 119 = .ok (.iadd, 1) := by decide +kernel
theorem dL_law_120 : decode cL_law 120 = .ok (.iaload, 1) := by decide +kernel
theorem dL_law_121 : decode cL_law 121 = .ok (.invokevirtual 17, 3) := by decide +kernel
theorem dL_law_124 : decode cL_law 124 = .ok (.if_icmp .eq 328, 3) := by decide +kernel
theorem dL_law_127 : decode cL_law 127 = .ok (.iconst 0, 1) := by decide +kernel
theorem dL_law_128 : decode cL_law 128 = .ok (.ireturn, 1) := by decide +kernel
theorem dL_law_129 : decode cL_law 129 = .ok (.aload_n 1, 1) := by decide +kernel
theorem dL_law_130 : decode cL_law 130 = .ok (.aload_n 0, 1) := by decide +kernel
theorem dL_law_131 : decode cL_law 131 = .ok (.iload_n 3, 1) := by decide +kernel
theorem dL_law_132 : decode cL_law 132 = .ok (.iconst 1, 1) := by decide +kernel
theorem dL_law_133 : decode cL_law 133 = .ok (.iadd, 1) := by decide +kernel
theorem dL_law_134 : decode cL_law 134 = .ok (.iaload, 1) := by decide +kernel
theorem dL_law_135 : decode cL_law 135 = .ok (.invokevirtual 18, 3) := by decide +kernel
theorem dL_law_138 : decode cL_law 138 = .ok (.aload_n 2, 1) := by decide +kernel
theorem dL_law_139 : decode cL_law 139 = .ok (.aload_n 0, 1) := by decide +kernel
theorem dL_law_140 : decode cL_law 140 = .ok (.iload_n 3, 1) := by decide +kernel
theorem dL_law_141 : decode cL_law 141 = .ok (.iconst 1, 1) := by decide +kernel
theorem dL_law_142 : decode cL_law 142 = .ok (.iadd, 1) := by decide +kernel
theorem dL_law_143 : decode cL_law 143 = .ok (.iaload, 1) := by decide +kernel
theorem dL_law_144 : decode cL_law 144 = .ok (.invokevirtual 22, 3) := by decide +kernel
theorem dL_law_147 : decode cL_law 147 = .ok (.if_icmp .eq 305, 3) := by decide +kernel
theorem dL_law_150 : decode cL_law 150 = .ok (.iconst 0, 1) := by decide +kernel
theorem dL_law_151 : decode cL_law 151 = .ok (.ireturn, 1) := by decide +kernel
theorem dL_law_152 : decode cL_law 152 = .ok (.aload_n 1, 1) := by decide +kernel
theorem dL_law_153 : decode cL_law 153 = .ok (.aload_n 0, 1) := by decide +kernel
theorem dL_law_154 : decode cL_law 154 = .ok (.iload_n 3, 1) := by decide +kernel
theorem dL_law_155 : decode cL_law 155 = .ok (.iconst 1, 1) := by decide +kernel
theorem dL_law_156 : decode cL_law 156 = .ok (.iadd, 1) := by decide +kernel
theorem dL_law_157 : decode cL_law 157 = .ok (.iaload, 1) := by decide +kernel
theorem dL_law_158 : decode cL_law 158 = .ok (.aload_n 0, 1) := by decide +kernel
theorem dL_law_159 : decode cL_law 159 = .ok (.iload_n 3, 1) := by decide +kernel
theorem dL_law_160 : decode cL_law 160 = .ok (.iconst 2, 1) := by decide +kernel
theorem dL_law_161 : decode cL_law 161 = .ok (.iadd, 1) := by decide +kernel
theorem dL_law_162 : decode cL_law 162 = .ok (.iaload, 1) := by decide +kernel
theorem dL_law_163 : decode cL_law 163 = .ok (.invokevirtual 23, 3) := by decide +kernel
theorem dL_law_166 : decode cL_law 166 = .ok (.aload_n 2, 1) := by decide +kernel
theorem dL_law_167 : decode cL_law 167 = .ok (.aload_n 0, 1) := by decide +kernel
theorem dL_law_168 : decode cL_law 168 = .ok (.iload_n 3, 1) := by decide +kernel
theorem dL_law_169 : decode cL_law 169 = .ok (.iconst 1, 1) := by decide +kernel
theorem dL_law_170 : decode cL_law 170 = .ok (.iadd, 1) := by decide +kernel
theorem dL_law_171 : decode cL_law 171 = .ok (.iaload, 1) := by decide +kernel
theorem dL_law_172 : decode cL_law 172 = .ok (.aload_n 0, 1) := by decide +kernel
theorem dL_law_173 : decode cL_law 173 = .ok (.iload_n 3, 1) := by decide +kernel
theorem dL_law_174 : decode cL_law 174 = .ok (.iconst 2, 1) := by decide +kernel
theorem dL_law_175 : decode cL_law 175 = .ok (.iadd, 1) := by decide +kernel
theorem dL_law_176 : decode cL_law 176 = .ok (.iaload, 1) := by decide +kernel
theorem dL_law_177 : decode cL_law 177 = .ok (.invokevirtual 26, 3) := by decide +kernel
theorem dL_law_180 : decode cL_law 180 = .ok (.if_icmp .eq 272, 3) := by decide +kernel
theorem dL_law_183 : decode cL_law 183 = .ok (.iconst 0, 1) := by decide +kernel
theorem dL_law_184 : decode cL_law 184 = .ok (.ireturn, 1) := by decide +kernel
theorem dL_law_185 : decode cL_law 185 = .ok (.aload_n 1, 1) := by decide +kernel
theorem dL_law_186 : decode cL_law 186 = .ok (.aload_n 0, 1) := by decide +kernel
theorem dL_law_187 : decode cL_law 187 = .ok (.iload_n 3, 1) := by decide +kernel
theorem dL_law_188 : decode cL_law 188 = .ok (.iconst 1, 1) := by decide +kernel
theorem dL_law_189 : decode cL_law 189 = .ok (.iadd, 1) := by decide +kernel
theorem dL_law_190 : decode cL_law 190 = .ok (.iaload, 1) := by decide +kernel
theorem dL_law_191 : decode cL_law 191 = .ok (.aload_n 0, 1) := by decide +kernel
theorem dL_law_192 : decode cL_law 192 = .ok (.iload_n 3, 1) := by decide +kernel
theorem dL_law_193 : decode cL_law 193 = .ok (.iconst 2, 1) := by decide +kernel
theorem dL_law_194 : decode cL_law 194 = .ok (.iadd, 1) := by decide +kernel
theorem dL_law_195 : decode cL_law 195 = .ok (.iaload, 1) := by decide +kernel
theorem dL_law_196 : decode cL_law 196 = .ok (.invokevirtual 27, 3) := by decide +kernel
theorem dL_law_199 : decode cL_law 199 = .ok (.aload_n 2, 1) := by decide +kernel
theorem dL_law_200 : decode cL_law 200 = .ok (.aload_n 0, 1) := by decide +kernel
theorem dL_law_201 : decode cL_law 201 = .ok (.iload_n 3, 1) := by decide +kernel
theorem dL_law_202 : decode cL_law 202 = .ok (.iconst 1, 1) := by decide +kernel
theorem dL_law_203 : decode cL_law 203 = .ok (.iadd, 1) := by decide +kernel
theorem dL_law_204 : decode cL_law 204 = .ok (.iaload, 1) := by decide +kernel
theorem dL_law_205 : decode cL_law 205 = .ok (.aload_n 0, 1) := by decide +kernel
theorem dL_law_206 : decode cL_law 206 = .ok (.iload_n 3, 1) := by decide +kernel
theorem dL_law_207 : decode cL_law 207 = .ok (.iconst 2, 1) := by decide +kernel
theorem dL_law_208 : decode cL_law 208 = .ok (.iadd, 1) := by decide +kernel
theorem dL_law_209 : decode cL_law 209 = .ok (.iaload, 1) := by decide +kernel
theorem dL_law_210 : decode cL_law 210 = .ok (.invokevirtual 30, 3) := by decide +kernel
theorem dL_law_213 : decode cL_law 213 = .ok (.if_icmp .eq 239, 3) := by decide +kernel
theorem dL_law_216 : decode cL_law 216 = .ok (.iconst 0, 1) := by decide +kernel
theorem dL_law_217 : decode cL_law 217 = .ok (.ireturn, 1) := by decide +kernel
theorem dL_law_218 : decode cL_law 218 = .ok (.aload_n 1, 1) := by decide +kernel
theorem dL_law_219 : decode cL_law 219 = .ok (.aload_n 0, 1) := by decide +kernel
theorem dL_law_220 : decode cL_law 220 = .ok (.iload_n 3, 1) := by decide +kernel
theorem dL_law_221 : decode cL_law 221 = .ok (.iconst 1, 1) := by decide +kernel
theorem dL_law_222 : decode cL_law 222 = .ok (.iadd, 1) := by decide +kernel
theorem dL_law_223 : decode cL_law 223 = .ok (.iaload, 1) := by decide +kernel
theorem dL_law_224 : decode cL_law 224 = .ok (.invokevirtual 31, 3) := by decide +kernel
theorem dL_law_227 : decode cL_law 227 = .ok (.aload_n 2, 1) := by decide +kernel
theorem dL_law_228 : decode cL_law 228 = .ok (.aload_n 0, 1) := by decide +kernel
theorem dL_law_229 : decode cL_law 229 = .ok (.iload_n 3, 1) := by decide +kernel
theorem dL_law_230 : decode cL_law 230 = .ok (.iconst 1, 1) := by decide +kernel
theorem dL_law_231 : decode cL_law 231 = .ok (.iadd, 1) := by decide +kernel
theorem dL_law_232 : decode cL_law 232 = .ok (.iaload, 1) := by decide +kernel
theorem dL_law_233 : decode cL_law 233 = .ok (.invokevirtual 34, 3) := by decide +kernel
theorem dL_law_236 : decode cL_law 236 = .ok (.if_icmp .eq 216, 3) := by decide +kernel
theorem dL_law_239 : decode cL_law 239 = .ok (.iconst 0, 1) := by decide +kernel
theorem dL_law_240 : decode cL_law 240 = .ok (.ireturn, 1) := by decide +kernel
theorem dL_law_241 : decode cL_law 241 = .ok (.aload_n 1, 1) := by decide +kernel
theorem dL_law_242 : decode cL_law 242 = .ok (.aload_n 0, 1) := by decide +kernel
theorem dL_law_243 : decode cL_law 243 = .ok (.iload_n 3, 1) := by decide +kernel
theorem dL_law_244 : decode cL_law 244 = .ok (.iconst 1, 1) := by decide +kernel
theorem dL_law_245 : decode cL_law 245 = .ok (.iadd, 1) := by decide +kernel
theorem dL_law_246 : decode cL_law 246 = .ok (.iaload, 1) := by decide +kernel
theorem dL_law_247 : decode cL_law 247 = .ok (.invokevirtual 35, 3) := by decide +kernel
theorem dL_law_250 : decode cL_law 250 = .ok (.aload_n 2, 1) := by decide +kernel
theorem dL_law_251 : decode cL_law 251 = .ok (.aload_n 0, 1) := by decide +kernel
theorem dL_law_252 : decode cL_law 252 = .ok (.iload_n 3, 1) := by decide +kernel
theorem dL_law_253 : decode cL_law 253 = .ok (.iconst 1, 1) := by decide +kernel
theorem dL_law_254 : decode cL_law 254 = .ok (.iadd, 1) := by decide +kernel
theorem dL_law_255 : decode cL_law 255 = .ok (.iaload, 1) := by decide +kernel
theorem dL_law_256 : decode cL_law 256 = .ok (.invokevirtual 38, 3) := by decide +kernel
theorem dL_law_259 : decode cL_law 259 = .ok (.if_icmp .eq 193, 3) := by decide +kernel
theorem dL_law_262 : decode cL_law 262 = .ok (.iconst 0, 1) := by decide +kernel
theorem dL_law_263 : decode cL_law 263 = .ok (.ireturn, 1) := by decide +kernel
theorem dL_law_264 : decode cL_law 264 = .ok (.aload_n 1, 1) := by decide +kernel
theorem dL_law_265 : decode cL_law 265 = .ok (.aload_n 0, 1) := by decide +kernel
theorem dL_law_266 : decode cL_law 266 = .ok (.iload_n 3, 1) := by decide +kernel
theorem dL_law_267 : decode cL_law 267 = .ok (.iconst 1, 1) := by decide +kernel
theorem dL_law_268 : decode cL_law 268 = .ok (.iadd, 1) := by decide +kernel
theorem dL_law_269 : decode cL_law 269 = .ok (.iaload, 1) := by decide +kernel
theorem dL_law_270 : decode cL_law 270 = .ok (.aload_n 0, 1) := by decide +kernel
theorem dL_law_271 : decode cL_law 271 = .ok (.iload_n 3, 1) := by decide +kernel
theorem dL_law_272 : decode cL_law 272 = .ok (.iconst 2, 1) := by decide +kernel
theorem dL_law_273 : decode cL_law 273 = .ok (.iadd, 1) := by decide +kernel
theorem dL_law_274 : decode cL_law 274 = .ok (.iaload, 1) := by decide +kernel
theorem dL_law_275 : decode cL_law 275 = .ok (.aload_n 0, 1) := by decide +kernel
theorem dL_law_276 : decode cL_law 276 = .ok (.iload_n 3, 1) := by decide +kernel
theorem dL_law_277 : decode cL_law 277 = .ok (.iconst 3, 1) := by decide +kernel
theorem dL_law_278 : decode cL_law 278 = .ok (.iadd, 1) := by decide +kernel
theorem dL_law_279 : decode cL_law 279 = .ok (.iaload, 1) := by decide +kernel
theorem dL_law_280 : decode cL_law 280 = .ok (.invokevirtual 39, 3) := by decide +kernel
theorem dL_law_283 : decode cL_law 283 = .ok (.aload_n 2, 1) := by decide +kernel
theorem dL_law_284 : decode cL_law 284 = .ok (.aload_n 0, 1) := by decide +kernel
theorem dL_law_285 : decode cL_law 285 = .ok (.iload_n 3, 1) := by decide +kernel
theorem dL_law_286 : decode cL_law 286 = .ok (.iconst 1, 1) := by decide +kernel
theorem dL_law_287 : decode cL_law 287 = .ok (.iadd, 1) := by decide +kernel
theorem dL_law_288 : decode cL_law 288 = .ok (.iaload, 1) := by decide +kernel
theorem dL_law_289 : decode cL_law 289 = .ok (.aload_n 0, 1) := by decide +kernel
theorem dL_law_290 : decode cL_law 290 = .ok (.iload_n 3, 1) := by decide +kernel
theorem dL_law_291 : decode cL_law 291 = .ok (.iconst 2, 1) := by decide +kernel
theorem dL_law_292 : decode cL_law 292 = .ok (.iadd, 1) := by decide +kernel
theorem dL_law_293 : decode cL_law 293 = .ok (.iaload, 1) := by decide +kernel
theorem dL_law_294 : decode cL_law 294 = .ok (.aload_n 0, 1) := by decide +kernel
theorem dL_law_295 : decode cL_law 295 = .ok (.iload_n 3, 1) := by decide +kernel
theorem dL_law_296 : decode cL_law 296 = .ok (.iconst 3, 1) := by decide +kernel
theorem dL_law_297 : decode cL_law 297 = .ok (.iadd, 1) := by decide +kernel
theorem dL_law_298 : decode cL_law 298 = .ok (.iaload, 1) := by decide +kernel
theorem dL_law_299 : decode cL_law 299 = .ok (.invokevirtual 43, 3) := by decide +kernel
theorem dL_law_302 : decode cL_law 302 = .ok (.if_icmp .eq 150, 3) := by decide +kernel
theorem dL_law_305 : decode cL_law 305 = .ok (.iconst 0, 1) := by decide +kernel
theorem dL_law_306 : decode cL_law 306 = .ok (.ireturn, 1) := by decide +kernel
theorem dL_law_307 : decode cL_law 307 = .ok (.aload_n 1, 1) := by decide +kernel
theorem dL_law_308 : decode cL_law 308 = .ok (.aload_n 0, 1) := by decide +kernel
theorem dL_law_309 : decode cL_law 309 = .ok (.iload_n 3, 1) := by decide +kernel
theorem dL_law_310 : decode cL_law 310 = .ok (.iconst 1, 1) := by decide +kernel
theorem dL_law_311 : decode cL_law 311 = .ok (.iadd, 1) := by decide +kernel
theorem dL_law_312 : decode cL_law 312 = .ok (.iaload, 1) := by decide +kernel
theorem dL_law_313 : decode cL_law 313 = .ok (.aload_n 0, 1) := by decide +kernel
theorem dL_law_314 : decode cL_law 314 = .ok (.iload_n 3, 1) := by decide +kernel
theorem dL_law_315 : decode cL_law 315 = .ok (.iconst 2, 1) := by decide +kernel
theorem dL_law_316 : decode cL_law 316 = .ok (.iadd, 1) := by decide +kernel
theorem dL_law_317 : decode cL_law 317 = .ok (.iaload, 1) := by decide +kernel
theorem dL_law_318 : decode cL_law 318 = .ok (.invokevirtual 44, 3) := by decide +kernel
theorem dL_law_321 : decode cL_law 321 = .ok (.aload_n 2, 1) := by decide +kernel
theorem dL_law_322 : decode cL_law 322 = .ok (.aload_n 0, 1) := by decide +kernel
theorem dL_law_323 : decode cL_law 323 = .ok (.iload_n 3, 1) := by decide +kernel
theorem dL_law_324 : decode cL_law 324 = .ok (.iconst 1, 1) := by decide +kernel
theorem dL_law_325 : decode cL_law 325 = .ok (.iadd, 1) := by decide +kernel
theorem dL_law_326 : decode cL_law 326 = .ok (.iaload, 1) := by decide +kernel
theorem dL_law_327 : decode cL_law 327 = .ok (.aload_n 0, 1) := by decide +kernel
theorem dL_law_328 : decode cL_law 328 = .ok (.iload_n 3, 1) := by decide +kernel
theorem dL_law_329 : decode cL_law 329 = .ok (.iconst 2, 1) := by decide +kernel
theorem dL_law_330 : decode cL_law 330 = .ok (.iadd, 1) := by decide +kernel
theorem dL_law_331 : decode cL_law 331 = .ok (.iaload, 1) := by decide +kernel
theorem dL_law_332 : decode cL_law 332 = .ok (.invokevirtual 47, 3) := by decide +kernel
theorem dL_law_335 : decode cL_law 335 = .ok (.if_icmp .eq 117, 3) := by decide +kernel
theorem dL_law_338 : decode cL_law 338 = .ok (.iconst 0, 1) := by decide +kernel
theorem dL_law_339 : decode cL_law 339 = .ok (.ireturn, 1) := by decide +kernel
theorem dL_law_340 : decode cL_law 340 = .ok (.aload_n 1, 1) := by decide +kernel
theorem dL_law_341 : decode cL_law 341 = .ok (.aload_n 0, 1) := by decide +kernel
theorem dL_law_342 : decode cL_law 342 = .ok (.iload_n 3, 1) := by decide +kernel
theorem dL_law_343 : decode cL_law 343 = .ok (.iconst 1, 1) := by decide +kernel
theorem dL_law_344 : decode cL_law 344 = .ok (.iadd, 1) := by decide +kernel
theorem dL_law_345 : decode cL_law 345 = .ok (.iaload, 1) := by decide +kernel
theorem dL_law_346 : decode cL_law 346 = .ok (.aload_n 0, 1) := by decide +kernel
theorem dL_law_347 : decode cL_law 347 = .ok (.iload_n 3, 1) := by decide +kernel
theorem dL_law_348 : decode cL_law 348 = .ok (.iconst 2, 1) := by decide +kernel
theorem dL_law_349 : decode cL_law 349 = .ok (.iadd, 1) := by decide +kernel
theorem dL_law_350 : decode cL_law 350 = .ok (.iaload, 1) := by decide +kernel
theorem dL_law_351 : decode cL_law 351 = .ok (.aload_n 0, 1) := by decide +kernel
theorem dL_law_352 : decode cL_law 352 = .ok (.iload_n 3, 1) := by decide +kernel
theorem dL_law_353 : decode cL_law 353 = .ok (.iconst 3, 1) := by decide +kernel
theorem dL_law_354 : decode cL_law 354 = .ok (.iadd, 1) := by decide +kernel
theorem dL_law_355 : decode cL_law 355 = .ok (.iaload, 1) := by decide +kernel
theorem dL_law_356 : decode cL_law 356 = .ok (.invokevirtual 48, 3) := by decide +kernel
theorem dL_law_359 : decode cL_law 359 = .ok (.aload_n 2, 1) := by decide +kernel
theorem dL_law_360 : decode cL_law 360 = .ok (.aload_n 0, 1) := by decide +kernel
theorem dL_law_361 : decode cL_law 361 = .ok (.iload_n 3, 1) := by decide +kernel
theorem dL_law_362 : decode cL_law 362 = .ok (.iconst 1, 1) := by decide +kernel
theorem dL_law_363 : decode cL_law 363 = .ok (.iadd, 1) := by decide +kernel
theorem dL_law_364 : decode cL_law 364 = .ok (.iaload, 1) := by decide +kernel
theorem dL_law_365 : decode cL_law 365 = .ok (.aload_n 0, 1) := by decide +kernel
theorem dL_law_366 : decode cL_law 366 = .ok (.iload_n 3, 1) := by decide +kernel
theorem dL_law_367 : decode cL_law 367 = .ok (.iconst 2, 1) := by decide +kernel
theorem dL_law_368 : decode cL_law 368 = .ok (.iadd, 1) := by decide +kernel
theorem dL_law_369 : decode cL_law 369 = .ok (.iaload, 1) := by decide +kernel
theorem dL_law_370 : decode cL_law 370 = .ok (.aload_n 0, 1) := by decide +kernel
theorem dL_law_371 : decode cL_law 371 = .ok (.iload_n 3, 1) := by decide +kernel
theorem dL_law_372 : decode cL_law 372 = .ok (.iconst 3, 1) := by decide +kernel
theorem dL_law_373 : decode cL_law 373 = .ok (.iadd, 1) := by decide +kernel
theorem dL_law_374 : decode cL_law 374 = .ok (.iaload, 1) := by decide +kernel
theorem dL_law_375 : decode cL_law 375 = .ok (.invokevirtual 51, 3) := by decide +kernel
theorem dL_law_378 : decode cL_law 378 = .ok (.if_icmp .eq 74, 3) := by decide +kernel
theorem dL_law_381 : decode cL_law 381 = .ok (.iconst 0, 1) := by decide +kernel
theorem dL_law_382 : decode cL_law 382 = .ok (.ireturn, 1) := by decide +kernel
theorem dL_law_383 : decode cL_law 383 = .ok (.aload_n 1, 1) := by decide +kernel
theorem dL_law_384 : decode cL_law 384 = .ok (.aload_n 0, 1) := by decide +kernel
theorem dL_law_385 : decode cL_law 385 = .ok (.iload_n 3, 1) := by decide +kernel
theorem dL_law_386 : decode cL_law 386 = .ok (.iconst 1, 1) := by decide +kernel
theorem dL_law_387 : decode cL_law 387 = .ok (.iadd, 1) := by decide +kernel
theorem dL_law_388 : decode cL_law 388 = .ok (.iaload, 1) := by decide +kernel
theorem dL_law_389 : decode cL_law 389 = .ok (.aload_n 0, 1) := by decide +kernel
theorem dL_law_390 : decode cL_law 390 = .ok (.iload_n 3, 1) := by decide +kernel
theorem dL_law_391 : decode cL_law 391 = .ok (.iconst 2, 1) := by decide +kernel
theorem dL_law_392 : decode cL_law 392 = .ok (.iadd, 1) := by decide +kernel
theorem dL_law_393 : decode cL_law 393 = .ok (.iaload, 1) := by decide +kernel
theorem dL_law_394 : decode cL_law 394 = .ok (.invokevirtual 52, 3) := by decide +kernel
theorem dL_law_397 : decode cL_law 397 = .ok (.aload_n 2, 1) := by decide +kernel
theorem dL_law_398 : decode cL_law 398 = .ok (.aload_n 0, 1) := by decide +kernel
theorem dL_law_399 : decode cL_law 399 = .ok (.iload_n 3, 1) := by decide +kernel
theorem dL_law_400 : decode cL_law 400 = .ok (.iconst 1, 1) := by decide +kernel
theorem dL_law_401 : decode cL_law 401 = .ok (.iadd, 1) := by decide +kernel
theorem dL_law_402 : decode cL_law 402 = .ok (.iaload, 1) := by decide +kernel
theorem dL_law_403 : decode cL_law 403 = .ok (.aload_n 0, 1) := by decide +kernel
theorem dL_law_404 : decode cL_law 404 = .ok (.iload_n 3, 1) := by decide +kernel
theorem dL_law_405 : decode cL_law 405 = .ok (.iconst 2, 1) := by decide +kernel
theorem dL_law_406 : decode cL_law 406 = .ok (.iadd, 1) := by decide +kernel
theorem dL_law_407 : decode cL_law 407 = .ok (.iaload, 1) := by decide +kernel
theorem dL_law_408 : decode cL_law 408 = .ok (.invokevirtual 55, 3) := by decide +kernel
theorem dL_law_411 : decode cL_law 411 = .ok (.if_icmp .eq 41, 3) := by decide +kernel
theorem dL_law_414 : decode cL_law 414 = .ok (.iconst 0, 1) := by decide +kernel
theorem dL_law_415 : decode cL_law 415 = .ok (.ireturn, 1) := by decide +kernel
theorem dL_law_416 : decode cL_law 416 = .ok (.aload_n 1, 1) := by decide +kernel
theorem dL_law_417 : decode cL_law 417 = .ok (.aload_n 0, 1) := by decide +kernel
theorem dL_law_418 : decode cL_law 418 = .ok (.iload_n 3, 1) := by decide +kernel
theorem dL_law_419 : decode cL_law 419 = .ok (.iconst 1, 1) := by decide +kernel
theorem dL_law_420 : decode cL_law 420 = .ok (.iadd, 1) := by decide +kernel
theorem dL_law_421 : decode cL_law 421 = .ok (.iaload, 1) := by decide +kernel
theorem dL_law_422 : decode cL_law 422 = .ok (.invokevirtual 56, 3) := by decide +kernel
theorem dL_law_425 : decode cL_law 425 = .ok (.aload_n 2, 1) := by decide +kernel
theorem dL_law_426 : decode cL_law 426 = .ok (.aload_n 0, 1) := by decide +kernel
theorem dL_law_427 : decode cL_law 427 = .ok (.iload_n 3, 1) := by decide +kernel
theorem dL_law_428 : decode cL_law 428 = .ok (.iconst 1, 1) := by decide +kernel
theorem dL_law_429 : decode cL_law 429 = .ok (.iadd, 1) := by decide +kernel
theorem dL_law_430 : decode cL_law 430 = .ok (.iaload, 1) := by decide +kernel
theorem dL_law_431 : decode cL_law 431 = .ok (.invokevirtual 59, 3) := by decide +kernel
theorem dL_law_434 : decode cL_law 434 = .ok (.if_icmp .eq 18, 3) := by decide +kernel
theorem dL_law_437 : decode cL_law 437 = .ok (.iconst 0, 1) := by decide +kernel
theorem dL_law_438 : decode cL_law 438 = .ok (.ireturn, 1) := by decide +kernel
theorem dL_law_439 : decode cL_law 439 = .ok (.aload_n 1, 1) := by decide +kernel
theorem dL_law_440 : decode cL_law 440 = .ok (.invokevirtual 60, 3) := by decide +kernel
theorem dL_law_443 : decode cL_law 443 = .ok (.aload_n 2, 1) := by decide +kernel
theorem dL_law_444 : decode cL_law 444 = .ok (.invokevirtual 64, 3) := by decide +kernel
theorem dL_law_447 : decode cL_law 447 = .ok (.if_icmp .eq 5, 3) := by decide +kernel
theorem dL_law_450 : decode cL_law 450 = .ok (.iconst 0, 1) := by decide +kernel
theorem dL_law_451 : decode cL_law 451 = .ok (.ireturn, 1) := by decide +kernel
theorem dL_law_452 : decode cL_law 452 = .ok (.iinc 3 4, 3) := by decide +kernel
theorem dL_law_455 : decode cL_law 455 = .ok (.goto (-437), 3) := by decide +kernel
theorem dL_law_458 : decode cL_law 458 = .ok (.iconst 1, 1) := by decide +kernel
theorem dL_law_459 : decode cL_law 459 = .ok (.ireturn, 1) := by decide +kernel
end
section
/-! the law: its rows over the two objects -/
set_option maxRecDepth 100000
theorem oA_ad {cI cZ : ClassId} {a : Nat → Nat} {X X' : oS} : ∀ (sh : List (Bool × Nat)) (k0 i : Nat) (q : Nat × va_E), (oA cI cZ a X k0 sh)[i]? = some q → ∃ q', (oA cI cZ a X' k0 sh)[i]? = some q' ∧ q'.1 = q.1
  | [], _, i, q, h => by
    simp [oA] at h
  | x :: t, k0, 0, q, h => ⟨_, rfl, by
      have h : some (a k0, _) = some q := h
      rw [← Option.some.inj h]⟩
  | x :: t, k0, i + 1, q, h => oA_ad t (k0 + 1) i q h
theorem oW_ad {cd : oD} {cI cZ : ClassId} {h : Nat} {a : Nat → Nat} {X : oS} (X' : oS) {i : Nat} {q : Nat × va_E} (e : (oW cd cI cZ h a X)[i]? = some q) : ∃ q', (oW cd cI cZ h a X')[i]? = some q' ∧ q'.1 = q.1 := by
  cases i with
  | zero =>
    have e : some (h, _) = some q := e
    exact ⟨_, rfl, by rw [← Option.some.inj e]⟩
  | succ i => exact oA_ad cd.2.2 1 i q e
theorem pP_l {D : va_G} {cl : List vw_C} {w1 w2 : va_W} {H : Heap} (h : va_P D cl (w1 ++ w2) H) : va_P D cl w1 H := fun k q hq => h k q (by rw [List.getElem?_append_left (List.getElem?_eq_some_iff.mp hq).1]; exact hq)
theorem pP_r {D : va_G} {cl : List vw_C} {w1 w2 : va_W} {H : Heap} (h : va_P D cl (w1 ++ w2) H) : va_P D cl w2 H := fun k q hq => h (w1.length + k) q (by rw [List.getElem?_append_right (by omega), Nat.add_sub_cancel_left]; exact hq)
theorem pD_l {A : Nat → Prop} {w1 w2 : va_W} (h : va_D A (w1 ++ w2)) : va_D A w1 :=
  ⟨fun i j p q hp hq e => h.1 i j p q (by rw [List.getElem?_append_left (List.getElem?_eq_some_iff.mp hp).1]; exact hp) (by rw [List.getElem?_append_left (List.getElem?_eq_some_iff.mp hq).1]; exact hq) e,
   fun k q hq => h.2 k q (by rw [List.getElem?_append_left (List.getElem?_eq_some_iff.mp hq).1]; exact hq)⟩
theorem pD_r {A : Nat → Prop} {w1 w2 : va_W} (h : va_D A (w1 ++ w2)) : va_D A w2 :=
  ⟨fun i j p q hp hq e => by
      have := h.1 (w1.length + i) (w1.length + j) p q (by rw [List.getElem?_append_right (by omega), Nat.add_sub_cancel_left]; exact hp) (by rw [List.getElem?_append_right (by omega), Nat.add_sub_cancel_left]; exact hq) e
      omega,
   fun k q hq => h.2 (w1.length + k) q (by rw [List.getElem?_append_right (by omega), Nat.add_sub_cancel_left]; exact hq)⟩
theorem pD_x {A : Nat → Prop} {w1 w2 : va_W} (h : va_D A (w1 ++ w2)) : ∀ (i j : Nat) (p q : Nat × va_E), w1[i]? = some p → w2[j]? = some q → p.1 ≠ q.1 := fun i j p q hp hq e => by
  have h1 := (List.getElem?_eq_some_iff.mp hp).1
  have := h.1 i (w1.length + j) p q (by rw [List.getElem?_append_left h1]; exact hp) (by rw [List.getElem?_append_right (by omega), Nat.add_sub_cancel_left]; exact hq) e
  omega
/-- two worlds have no address in common -/
def lx (w1 w2 : va_W) : Prop := ∀ (i j : Nat) (p q : Nat × va_E), w1[i]? = some p → w2[j]? = some q → p.1 ≠ q.1
theorem lx.sy {w1 w2 : va_W} (h : lx w1 w2) : lx w2 w1 := fun i j p q hp hq e => h j i q p hq hp e.symm
theorem lx.W {cd : oD} {cI cZ : ClassId} {h : Nat} {a : Nat → Nat} {X : oS} {w : va_W} (X' : oS) (g : lx (oW cd cI cZ h a X) w) : lx (oW cd cI cZ h a X') w := fun i j p q hp hq e => by
  obtain ⟨p', h1, h2⟩ := oW_ad X hp
  exact g i j p' q h1 hq (h2.trans e)
section LROWS
variable {p : Program} {l : Launch} {e : Env} {R : Room} {s : State} {m : MethodId} {args : Array Value} {below : List Frame} {meth : Method} {c : Code} {H : Heap} {locs : List Loc} {cells slots : Nat} {Q : State → Prop}
variable {cc : ByteArray} {pc nL : Nat} {ls : Array Slot} {rest : List Value} {ret : Option FieldType} {own : String}
variable {D : va_G} {cI cZ : ClassId} {X S : oS}
/-- a call of a method of one object, beside other cells -/
theorem l_call {cd : oD} {h : Nat} {a : Nat → Nat} {A : Nat → Prop} {wr : va_W} {lv : List (Nat × Value)} {y : MethodName} {ccy : ByteArray} {nLy : Nat} {rety : Option FieldType} {fr lo : Nat} {As : List Value} {post : Int → oS → Prop} {C : String} {T : u_T} {N idx nA : Nat} {st : List Value} (E : mE p s m args meth c cc nL ret own) (hW : mW cd D cI cZ h a A s X H locs) (hR0 : va_P D vwCl wr H) (hdj : lx (oW cd cI cZ h a X) wr) (hl : lv_has ls nL lv) (hM : oC cd l y ccy nLy rety fr lo D cI cZ h a X As post)
    (hg : GoodIn lw_all (wsV own idx C y (ws_ y ccy nLy rety))) (hc : vwCl[cd.1]? = some (C, T, N)) (hd : y.cls = C ∧ y.cls ≠ "java/lang/invoke/MethodHandle" ∧ y.cls ≠ "java/lang/invoke/VarHandle" ∧ (parseMethodDescriptor y.desc).map (fun d => d.parameters.length) = some nA) (hA : As.length = nA) (hR : fr + 1 ≤ R.frames ∧ 8 + (nLy + 11) + lo ≤ R.locals) (hst : st = As.reverse ++ .ref h :: rest) (hre : (rest.map fun v => v.category).sum ≤ 8) (hcs : cells ≤ R.cells ∧ slots ≤ R.slots) (hdg : decode cc pc = .ok (.invokevirtual idx, 3))
    (kk : ∀ (z : Int) (X' : oS) (H' : Heap) (locs' : List Loc), post z X' → mW cd D cI cZ h a A s X' H' locs' → va_P D vwCl wr H' → W p l e R s m args below meth c H' locs' cells slots Q (F0 m (pc + 3) ls (.int (iI z) :: rest))) : W p l e R s m args below meth c H locs cells slots Q (F0 m pc ls st) := by
  have hF := o_free hW
  refine va_calli (va_runV (As := As) (rest := rest) (nL := nL) ⟨E.1, E.2.1, E.2.2.1, E.2.2.2.1, E.2.2.2.2.1⟩ (hM H.size) (cwV nA E.2.2.2.2.1 hg rfl rfl rfl hd hR) ⟨o_blind, va_recv (q := (C, T, N)) hW.1 hW.2.1 hc (q0 := 0) rfl, fun U hU hw => ⟨rfl, by rw [hU], by rw [hU]; exact hW.2.1, va_K.moved hw.alike hW.1, hW.2.2.1.weaken (fun _ _ _ _ => trivial)⟩⟩ rfl hA hl.1 hst (lv_room hre) hdg hcs) hW.2.2.2.1 (fun q _ hq => hF q hq) hF (fun r u t H1 locs1 ht hvm hw1 hB hz1 hk1 hS1 => ?_)
  obtain ⟨rfl, hp⟩ := hw1
  refine kk u.1 u.2 H1 locs1 hp ⟨hW.1, by rw [← ht]; exact hB.1, hB.2.2.weaken (fun k q _ hq => hF q.1 hq), hS1, hW.2.2.2.2⟩ (hR0.kept (fun k q hq => hk1 q.1 (hR0 k q hq).lt (fun z => ?_)))
  rcases z with ⟨k', e', hz⟩ | hz
  · exact hdj k' k (q.1, e') q hz hq rfl
  · have := (hR0 k q hq).lt
    omega
abbrev lA (s : State) : Nat → Prop := fun q => s.heap.size ≤ q
/-- the two objects -/
def lM (D : va_G) (cI cZ : ClassId) (h1 : Nat) (a1 : Nat → Nat) (h2 : Nat) (a2 : Nat → Nat) (s : State) (X S : oS) (H : Heap) (locs : List Loc) : Prop :=
  va_K D vwCl [(cI, .int), (cZ, .boolean)] s ∧ va_P D vwCl (oW dX cI cZ h1 a1 X) H ∧ va_P D vwCl (oW dM cI cZ h2 a2 S) H ∧ va_D (lA s) (oW dX cI cZ h1 a1 X) ∧ va_D (lA s) (oW dM cI cZ h2 a2 S) ∧ lx (oW dX cI cZ h1 a1 X) (oW dM cI cZ h2 a2 S) ∧ va_S (lA s) s.heap H locs
variable {h1 h2 : Nat} {a1 a2 : Nat → Nat}
theorem lx_call {lv : List (Nat × Value)} {y : MethodName} {ccy : ByteArray} {nLy : Nat} {rety : Option FieldType} {fr lo : Nat} {As : List Value} {post : Int → oS → Prop} {C : String} {T : u_T} {N idx nA : Nat} {st : List Value} (E : mE p s m args meth c cc nL ret own) (hW : lM D cI cZ h1 a1 h2 a2 s X S H locs) (hl : lv_has ls nL lv) (hM : oC dX l y ccy nLy rety fr lo D cI cZ h1 a1 X As post)
    (hg : GoodIn lw_all (wsV own idx C y (ws_ y ccy nLy rety))) (hc : vwCl[dX.1]? = some (C, T, N)) (hd : y.cls = C ∧ y.cls ≠ "java/lang/invoke/MethodHandle" ∧ y.cls ≠ "java/lang/invoke/VarHandle" ∧ (parseMethodDescriptor y.desc).map (fun d => d.parameters.length) = some nA) (hA : As.length = nA) (hR : fr + 1 ≤ R.frames ∧ 8 + (nLy + 11) + lo ≤ R.locals) (hst : st = As.reverse ++ .ref h1 :: rest) (hre : (rest.map fun v => v.category).sum ≤ 8) (hcs : cells ≤ R.cells ∧ slots ≤ R.slots) (hdg : decode cc pc = .ok (.invokevirtual idx, 3))
    (kk : ∀ (z : Int) (X' : oS) (H' : Heap) (locs' : List Loc), post z X' → lM D cI cZ h1 a1 h2 a2 s X' S H' locs' → W p l e R s m args below meth c H' locs' cells slots Q (F0 m (pc + 3) ls (.int (iI z) :: rest))) : W p l e R s m args below meth c H locs cells slots Q (F0 m pc ls st) := by
  obtain ⟨g1, g2, g3, g4, g5, g6, g7⟩ := hW
  exact l_call E ⟨g1, g2, g4, g7, fun _ h => h⟩ g3 g6 hl hM hg hc hd hA hR hst hre hcs hdg (fun z X' H' locs' hp hw hr => kk z X' H' locs' hp ⟨hw.1, hw.2.1, hr, hw.2.2.1, g5, g6.W X', hw.2.2.2.1⟩)
theorem lm_call {lv : List (Nat × Value)} {y : MethodName} {ccy : ByteArray} {nLy : Nat} {rety : Option FieldType} {fr lo : Nat} {As : List Value} {post : Int → oS → Prop} {C : String} {T : u_T} {N idx nA : Nat} {st : List Value} (E : mE p s m args meth c cc nL ret own) (hW : lM D cI cZ h1 a1 h2 a2 s X S H locs) (hl : lv_has ls nL lv) (hM : oC dM l y ccy nLy rety fr lo D cI cZ h2 a2 S As post)
    (hg : GoodIn lw_all (wsV own idx C y (ws_ y ccy nLy rety))) (hc : vwCl[dM.1]? = some (C, T, N)) (hd : y.cls = C ∧ y.cls ≠ "java/lang/invoke/MethodHandle" ∧ y.cls ≠ "java/lang/invoke/VarHandle" ∧ (parseMethodDescriptor y.desc).map (fun d => d.parameters.length) = some nA) (hA : As.length = nA) (hR : fr + 1 ≤ R.frames ∧ 8 + (nLy + 11) + lo ≤ R.locals) (hst : st = As.reverse ++ .ref h2 :: rest) (hre : (rest.map fun v => v.category).sum ≤ 8) (hcs : cells ≤ R.cells ∧ slots ≤ R.slots) (hdg : decode cc pc = .ok (.invokevirtual idx, 3))
    (kk : ∀ (z : Int) (S' : oS) (H' : Heap) (locs' : List Loc), post z S' → lM D cI cZ h1 a1 h2 a2 s X S' H' locs' → W p l e R s m args below meth c H' locs' cells slots Q (F0 m (pc + 3) ls (.int (iI z) :: rest))) : W p l e R s m args below meth c H locs cells slots Q (F0 m pc ls st) := by
  obtain ⟨g1, g2, g3, g4, g5, g6, g7⟩ := hW
  exact l_call E ⟨g1, g3, g5, g7, fun _ h => h⟩ g2 g6.sy hl hM hg hc hd hA hR hst hre hcs hdg (fun z X' H' locs' hp hw hr => kk z X' H' locs' hp ⟨hw.1, hr, hw.2.1, g4, hw.2.2.1, (g6.sy.W X').sy, hw.2.2.2.1⟩)
/-- an int of the script -/
theorem l_sld {b L : Nat} {xs : Nat → Int32} (E : mE p s m args meth c cc nL ret own) (hX : va_X b L xs s s.heap) (hbl : b < s.heap.size) (hW : lM D cI cZ h1 a1 h2 a2 s X S H locs) {i : Int} (h0 : 0 ≤ i) (h1' : i < L) (hL : L ≤ 256) (hdg : decode cc pc = .ok (.iaload, 1))
    (kk : W p l e R s m args below meth c H locs cells slots Q (F0 m (pc + 1) ls (.int (iI (xs i.toNat).toInt) :: rest))) : W p l e R s m args below meth c H locs cells slots Q (F0 m pc ls (.int (iI i) :: .ref b :: rest)) := by
  refine va_sld (A := lA s) E.1 E.2.1 hX hbl (Nat.not_le.mpr hbl) hW.2.2.2.2.2.2 (ii_in h0 h1' (by omega)) hdg ?_
  rw [ii_cl h0 (by omega)]
  rw [ii_of] at kk
  exact kk
theorem l_slen {b L : Nat} {xs : Nat → Int32} (E : mE p s m args meth c cc nL ret own) (hX : va_X b L xs s s.heap) (hbl : b < s.heap.size) (hW : lM D cI cZ h1 a1 h2 a2 s X S H locs) (hdg : decode cc pc = .ok (.arraylength, 1))
    (kk : W p l e R s m args below meth c H locs cells slots Q (F0 m (pc + 1) ls (.int (iI (L : Int)) :: rest))) : W p l e R s m args below meth c H locs cells slots Q (F0 m pc ls (.ref b :: rest)) := by
  refine va_slen (A := lA s) E.1 E.2.1 hX hbl (Nat.not_le.mpr hbl) hW.2.2.2.2.2.2 hdg ?_
  rw [show Int32.ofNat L = iI (L : Int) from Int32.ofInt_eq_ofNat.symm]
  exact kk
end LROWS
theorem has_r {X : oS} {pp dd : Int} (h : rg X 2 24 (-1) 23) (g : hasD X pp dd) : X 2 (6 * pp + dd) < 24 := by
  have h1 := g.1.1
  have h2 := g.1.2.1
  have h3 := g.2.1
  have h4 := g.2.2.1
  have := h (6 * pp + dd) (by omega) (by omega)
  omega
theorem has_o {S : oS} {pp dd : Int} (g : hasD S pp dd) : opd S (S 2 (6 * pp + dd)) := by
  have h1 := g.1.1
  have h2 := g.1.2.1
  have h3 := g.2.1
  have h4 := g.2.2.1
  exact ⟨6 * pp + dd, by omega, by omega, rfl⟩
end
section
/-! the law: one theorem a case -/
set_option maxRecDepth 100000
set_option maxHeartbeats 4000000 in
/-- open -/
theorem lc_open {p : Program} {l : Launch} {e : Env} {s : State} {m : MethodId} {below : List Frame} {meth : Method} {c : Code} {H : Heap} {locs : List Loc} {Q : State → Prop} {ls : Array Slot} {D : va_G} {cI cZ : ClassId} {X S : oS} {h1 h2 : Nat} {a1 a2 : Nat → Nat} {b L : Nat} {xs : Nat → Int32} {i : Int} (E : mE p s m #[Value.ref b] meth c cL_law 4 ret "DescriptorTableLaw") (hX : va_X b L xs s s.heap) (hbl : b < s.heap.size) (hL : L ≤ 256) (h0 : 0 ≤ i) (hi : i ≤ (L : Int) - 4) (HR : Rel S X) (hW : lM D cI cZ h1 a1 h2 a2 s X S H locs) (hl : lv_has ls 4 [(0, .ref b), (1, .ref h1), (2, .ref h2), (3, .int (iI i))])
    (kk : ∀ (X' S' : oS) (H : Heap) (locs : List Loc), Rel S' X' → lM D cI cZ h1 a1 h2 a2 s X' S' H locs → W p l e room_1 s m #[Value.ref b] below meth c H locs 27 1198 Q (F0 m 452 ls [])) : W p l e room_1 s m #[Value.ref b] below meth c H locs 27 1198 Q (F0 m 96 ls []) := by
  have hx := E.1
  have hb := E.2.1
  obtain ⟨b0, b1, b2, b3, b4, b5, b6, b7, b8, b9, b11, b12, b13, b14, b45⟩ := bX HR
  obtain ⟨i1, i2, i3, i4, i45, i5, i6, i7, i9, iD, iL, iU⟩ := HR.1
  refine lv_aload_n hx hb dL_law_96 rfl (lv_at hl 1 rfl) ?_
  refine lv_aload_n hx hb dL_law_97 rfl (lv_at hl 0 rfl) ?_
  refine lv_iload_n hx hb dL_law_98 rfl (lv_at hl 3 rfl) ?_
  refine o_iconst hx hb dL_law_99 ?_
  refine o_iadd hx hb dL_law_100 ?_
  refine l_sld E hX hbl hW (by omega) (by omega) hL dL_law_101 ?_
  refine lv_aload_n hx hb dL_law_102 rfl (lv_at hl 0 rfl) ?_
  refine lv_iload_n hx hb dL_law_103 rfl (lv_at hl 3 rfl) ?_
  refine o_iconst hx hb dL_law_104 ?_
  refine o_iadd hx hb dL_law_105 ?_
  refine l_sld E hX hbl hW (by omega) (by omega) hL dL_law_106 ?_
  refine lx_call (nA := 2) (As := [.int (iI (xs (i + 1).toNat).toInt), .int (iI (xs (i + 2).toNat).toInt)]) (rest := []) E hW hl (xm_open l D cI cZ h1 a1 X ((xs (i + 1).toNat).toInt) ((xs (i + 2).toNat).toInt) (ii_rof _) (ii_rof _) b1 b2 b3 b7 b8) (lw_V q82 q83 q84 q21 q85) rfl (by decide +kernel) rfl ⟨Nat.le_of_ble_eq_true rfl, Nat.le_of_ble_eq_true rfl⟩ rfl (Nat.le_of_ble_eq_true rfl) ⟨Nat.le_of_ble_eq_true rfl, Nat.le_of_ble_eq_true rfl⟩ dL_law_107 (fun z1 X' H locs hq1 hW => ?_)
  refine lv_aload_n hx hb dL_law_110 rfl (lv_at hl 2 rfl) ?_
  refine lv_aload_n hx hb dL_law_111 rfl (lv_at hl 0 rfl) ?_
  refine lv_iload_n hx hb dL_law_112 rfl (lv_at hl 3 rfl) ?_
  refine o_iconst hx hb dL_law_113 ?_
  refine o_iadd hx hb dL_law_114 ?_
  refine l_sld E hX hbl hW (by omega) (by omega) hL dL_law_115 ?_
  refine lv_aload_n hx hb dL_law_116 rfl (lv_at hl 0 rfl) ?_
  refine lv_iload_n hx hb dL_law_117 rfl (lv_at hl 3 rfl) ?_
  refine o_iconst hx hb dL_law_118 ?_
  refine o_iadd hx hb dL_law_119 ?_
  refine l_sld E hX hbl hW (by omega) (by omega) hL dL_law_120 ?_
  refine lm_call (nA := 2) (As := [.int (iI (xs (i + 1).toNat).toInt), .int (iI (xs (i + 2).toNat).toInt)]) (rest := [.int (iI z1)]) E hW hl (mm_open l D cI cZ h2 a2 S ((xs (i + 1).toNat).toInt) ((xs (i + 2).toNat).toInt) (ii_rof _) (ii_rof _) i1 i2 i3 i4 i6 (fun g ⟨d, d0, d1, d2⟩ => ph_o (i := 6 * _ + d) (by have := g.1; omega) (by have := g.2.1; omega) d2) (fun _ _ g0 g1 g2 => ph_f g0 (by omega) g2)) (lw_V q214 q215 q216 q22 q217) rfl (by decide +kernel) rfl ⟨Nat.le_of_ble_eq_true rfl, Nat.le_of_ble_eq_true rfl⟩ rfl (Nat.le_of_ble_eq_true rfl) ⟨Nat.le_of_ble_eq_true rfl, Nat.le_of_ble_eq_true rfl⟩ dL_law_121 (fun z2 S' H locs hq2 hW => ?_)
  obtain ⟨ez, HR'⟩ := tt_open HR hq1 hq2
  subst ez
  exact lv_icmp_eq (tgt := 452) hx hb dL_law_124 (by decide) (fun _ => kk X' S' H locs HR' hW) (fun q => absurd rfl q)
set_option maxHeartbeats 4000000 in
/-- pipe -/
theorem lc_pipe {p : Program} {l : Launch} {e : Env} {s : State} {m : MethodId} {below : List Frame} {meth : Method} {c : Code} {H : Heap} {locs : List Loc} {Q : State → Prop} {ls : Array Slot} {D : va_G} {cI cZ : ClassId} {X S : oS} {h1 h2 : Nat} {a1 a2 : Nat → Nat} {b L : Nat} {xs : Nat → Int32} {i : Int} (E : mE p s m #[Value.ref b] meth c cL_law 4 ret "DescriptorTableLaw") (hX : va_X b L xs s s.heap) (hbl : b < s.heap.size) (hL : L ≤ 256) (h0 : 0 ≤ i) (hi : i ≤ (L : Int) - 4) (HR : Rel S X) (hW : lM D cI cZ h1 a1 h2 a2 s X S H locs) (hl : lv_has ls 4 [(0, .ref b), (1, .ref h1), (2, .ref h2), (3, .int (iI i))])
    (kk : ∀ (X' S' : oS) (H : Heap) (locs : List Loc), Rel S' X' → lM D cI cZ h1 a1 h2 a2 s X' S' H locs → W p l e room_1 s m #[Value.ref b] below meth c H locs 27 1198 Q (F0 m 452 ls [])) : W p l e room_1 s m #[Value.ref b] below meth c H locs 27 1198 Q (F0 m 129 ls []) := by
  have hx := E.1
  have hb := E.2.1
  obtain ⟨b0, b1, b2, b3, b4, b5, b6, b7, b8, b9, b11, b12, b13, b14, b45⟩ := bX HR
  obtain ⟨i1, i2, i3, i4, i45, i5, i6, i7, i9, iD, iL, iU⟩ := HR.1
  refine lv_aload_n hx hb dL_law_129 rfl (lv_at hl 1 rfl) ?_
  refine lv_aload_n hx hb dL_law_130 rfl (lv_at hl 0 rfl) ?_
  refine lv_iload_n hx hb dL_law_131 rfl (lv_at hl 3 rfl) ?_
  refine o_iconst hx hb dL_law_132 ?_
  refine o_iadd hx hb dL_law_133 ?_
  refine l_sld E hX hbl hW (by omega) (by omega) hL dL_law_134 ?_
  refine lx_call (nA := 1) (As := [.int (iI (xs (i + 1).toNat).toInt)]) (rest := []) E hW hl (xm_pipe l D cI cZ h1 a1 X ((xs (i + 1).toNat).toInt) (ii_rof _) b1 b2 b3 b11 b12) (lw_V q105 q106 q107 q21 q108) rfl (by decide +kernel) rfl ⟨Nat.le_of_ble_eq_true rfl, Nat.le_of_ble_eq_true rfl⟩ rfl (Nat.le_of_ble_eq_true rfl) ⟨Nat.le_of_ble_eq_true rfl, Nat.le_of_ble_eq_true rfl⟩ dL_law_135 (fun z1 X' H locs hq1 hW => ?_)
  refine lv_aload_n hx hb dL_law_138 rfl (lv_at hl 2 rfl) ?_
  refine lv_aload_n hx hb dL_law_139 rfl (lv_at hl 0 rfl) ?_
  refine lv_iload_n hx hb dL_law_140 rfl (lv_at hl 3 rfl) ?_
  refine o_iconst hx hb dL_law_141 ?_
  refine o_iadd hx hb dL_law_142 ?_
  refine l_sld E hX hbl hW (by omega) (by omega) hL dL_law_143 ?_
  refine lm_call (nA := 1) (As := [.int (iI (xs (i + 1).toNat).toInt)]) (rest := [.int (iI z1)]) E hW hl (mm_pipe l D cI cZ h2 a2 S ((xs (i + 1).toNat).toInt) (ii_rof _) i1 i2 i3 i4 (fun g g2 => pm_1 g g2) (fun q r o g g2 _ _ => pm_2 g g2)) (lw_V q249 q250 q251 q22 q252) rfl (by decide +kernel) rfl ⟨Nat.le_of_ble_eq_true rfl, Nat.le_of_ble_eq_true rfl⟩ rfl (Nat.le_of_ble_eq_true rfl) ⟨Nat.le_of_ble_eq_true rfl, Nat.le_of_ble_eq_true rfl⟩ dL_law_144 (fun z2 S' H locs hq2 hW => ?_)
  obtain ⟨ez, HR'⟩ := tt_pipe HR hq1 hq2
  subst ez
  exact lv_icmp_eq (tgt := 452) hx hb dL_law_147 (by decide) (fun _ => kk X' S' H locs HR' hW) (fun q => absurd rfl q)
set_option maxHeartbeats 4000000 in
/-- dup -/
theorem lc_dup {p : Program} {l : Launch} {e : Env} {s : State} {m : MethodId} {below : List Frame} {meth : Method} {c : Code} {H : Heap} {locs : List Loc} {Q : State → Prop} {ls : Array Slot} {D : va_G} {cI cZ : ClassId} {X S : oS} {h1 h2 : Nat} {a1 a2 : Nat → Nat} {b L : Nat} {xs : Nat → Int32} {i : Int} (E : mE p s m #[Value.ref b] meth c cL_law 4 ret "DescriptorTableLaw") (hX : va_X b L xs s s.heap) (hbl : b < s.heap.size) (hL : L ≤ 256) (h0 : 0 ≤ i) (hi : i ≤ (L : Int) - 4) (HR : Rel S X) (hW : lM D cI cZ h1 a1 h2 a2 s X S H locs) (hl : lv_has ls 4 [(0, .ref b), (1, .ref h1), (2, .ref h2), (3, .int (iI i))])
    (kk : ∀ (X' S' : oS) (H : Heap) (locs : List Loc), Rel S' X' → lM D cI cZ h1 a1 h2 a2 s X' S' H locs → W p l e room_1 s m #[Value.ref b] below meth c H locs 27 1198 Q (F0 m 452 ls [])) : W p l e room_1 s m #[Value.ref b] below meth c H locs 27 1198 Q (F0 m 152 ls []) := by
  have hx := E.1
  have hb := E.2.1
  obtain ⟨b0, b1, b2, b3, b4, b5, b6, b7, b8, b9, b11, b12, b13, b14, b45⟩ := bX HR
  obtain ⟨i1, i2, i3, i4, i45, i5, i6, i7, i9, iD, iL, iU⟩ := HR.1
  refine lv_aload_n hx hb dL_law_152 rfl (lv_at hl 1 rfl) ?_
  refine lv_aload_n hx hb dL_law_153 rfl (lv_at hl 0 rfl) ?_
  refine lv_iload_n hx hb dL_law_154 rfl (lv_at hl 3 rfl) ?_
  refine o_iconst hx hb dL_law_155 ?_
  refine o_iadd hx hb dL_law_156 ?_
  refine l_sld E hX hbl hW (by omega) (by omega) hL dL_law_157 ?_
  refine lv_aload_n hx hb dL_law_158 rfl (lv_at hl 0 rfl) ?_
  refine lv_iload_n hx hb dL_law_159 rfl (lv_at hl 3 rfl) ?_
  refine o_iconst hx hb dL_law_160 ?_
  refine o_iadd hx hb dL_law_161 ?_
  refine l_sld E hX hbl hW (by omega) (by omega) hL dL_law_162 ?_
  refine lx_call (nA := 2) (As := [.int (iI (xs (i + 1).toNat).toInt), .int (iI (xs (i + 2).toNat).toInt)]) (rest := []) E hW hl (xm_dup l D cI cZ h1 a1 X ((xs (i + 1).toNat).toInt) ((xs (i + 2).toNat).toInt) (ii_rof _) (ii_rof _) b1 b2) (lw_V q113 q114 q115 q21 q116) rfl (by decide +kernel) rfl ⟨Nat.le_of_ble_eq_true rfl, Nat.le_of_ble_eq_true rfl⟩ rfl (Nat.le_of_ble_eq_true rfl) ⟨Nat.le_of_ble_eq_true rfl, Nat.le_of_ble_eq_true rfl⟩ dL_law_163 (fun z1 X' H locs hq1 hW => ?_)
  refine lv_aload_n hx hb dL_law_166 rfl (lv_at hl 2 rfl) ?_
  refine lv_aload_n hx hb dL_law_167 rfl (lv_at hl 0 rfl) ?_
  refine lv_iload_n hx hb dL_law_168 rfl (lv_at hl 3 rfl) ?_
  refine o_iconst hx hb dL_law_169 ?_
  refine o_iadd hx hb dL_law_170 ?_
  refine l_sld E hX hbl hW (by omega) (by omega) hL dL_law_171 ?_
  refine lv_aload_n hx hb dL_law_172 rfl (lv_at hl 0 rfl) ?_
  refine lv_iload_n hx hb dL_law_173 rfl (lv_at hl 3 rfl) ?_
  refine o_iconst hx hb dL_law_174 ?_
  refine o_iadd hx hb dL_law_175 ?_
  refine l_sld E hX hbl hW (by omega) (by omega) hL dL_law_176 ?_
  refine lm_call (nA := 2) (As := [.int (iI (xs (i + 1).toNat).toInt), .int (iI (xs (i + 2).toNat).toInt)]) (rest := [.int (iI z1)]) E hW hl (mm_dup l D cI cZ h2 a2 S ((xs (i + 1).toNat).toInt) ((xs (i + 2).toNat).toInt) (ii_rof _) (ii_rof _) i1 i2) (lw_V q257 q258 q259 q22 q260) rfl (by decide +kernel) rfl ⟨Nat.le_of_ble_eq_true rfl, Nat.le_of_ble_eq_true rfl⟩ rfl (Nat.le_of_ble_eq_true rfl) ⟨Nat.le_of_ble_eq_true rfl, Nat.le_of_ble_eq_true rfl⟩ dL_law_177 (fun z2 S' H locs hq2 hW => ?_)
  obtain ⟨ez, HR'⟩ := tt_dup HR hq1 hq2
  subst ez
  exact lv_icmp_eq (tgt := 452) hx hb dL_law_180 (by decide) (fun _ => kk X' S' H locs HR' hW) (fun q => absurd rfl q)
set_option maxHeartbeats 4000000 in
/-- close -/
theorem lc_close {p : Program} {l : Launch} {e : Env} {s : State} {m : MethodId} {below : List Frame} {meth : Method} {c : Code} {H : Heap} {locs : List Loc} {Q : State → Prop} {ls : Array Slot} {D : va_G} {cI cZ : ClassId} {X S : oS} {h1 h2 : Nat} {a1 a2 : Nat → Nat} {b L : Nat} {xs : Nat → Int32} {i : Int} (E : mE p s m #[Value.ref b] meth c cL_law 4 ret "DescriptorTableLaw") (hX : va_X b L xs s s.heap) (hbl : b < s.heap.size) (hL : L ≤ 256) (h0 : 0 ≤ i) (hi : i ≤ (L : Int) - 4) (HR : Rel S X) (hW : lM D cI cZ h1 a1 h2 a2 s X S H locs) (hl : lv_has ls 4 [(0, .ref b), (1, .ref h1), (2, .ref h2), (3, .int (iI i))])
    (kk : ∀ (X' S' : oS) (H : Heap) (locs : List Loc), Rel S' X' → lM D cI cZ h1 a1 h2 a2 s X' S' H locs → W p l e room_1 s m #[Value.ref b] below meth c H locs 27 1198 Q (F0 m 452 ls [])) : W p l e room_1 s m #[Value.ref b] below meth c H locs 27 1198 Q (F0 m 185 ls []) := by
  have hx := E.1
  have hb := E.2.1
  obtain ⟨b0, b1, b2, b3, b4, b5, b6, b7, b8, b9, b11, b12, b13, b14, b45⟩ := bX HR
  obtain ⟨i1, i2, i3, i4, i45, i5, i6, i7, i9, iD, iL, iU⟩ := HR.1
  refine lv_aload_n hx hb dL_law_185 rfl (lv_at hl 1 rfl) ?_
  refine lv_aload_n hx hb dL_law_186 rfl (lv_at hl 0 rfl) ?_
  refine lv_iload_n hx hb dL_law_187 rfl (lv_at hl 3 rfl) ?_
  refine o_iconst hx hb dL_law_188 ?_
  refine o_iadd hx hb dL_law_189 ?_
  refine l_sld E hX hbl hW (by omega) (by omega) hL dL_law_190 ?_
  refine lv_aload_n hx hb dL_law_191 rfl (lv_at hl 0 rfl) ?_
  refine lv_iload_n hx hb dL_law_192 rfl (lv_at hl 3 rfl) ?_
  refine o_iconst hx hb dL_law_193 ?_
  refine o_iadd hx hb dL_law_194 ?_
  refine l_sld E hX hbl hW (by omega) (by omega) hL dL_law_195 ?_
  refine lx_call (nA := 2) (As := [.int (iI (xs (i + 1).toNat).toInt), .int (iI (xs (i + 2).toNat).toInt)]) (rest := []) E hW hl (xm_close l D cI cZ h1 a1 X ((xs (i + 1).toNat).toInt) ((xs (i + 2).toNat).toInt) (ii_rof _) (ii_rof _) b1 b2 b3 b4 b5 (fun i g1 g2 _ _ => b45 i g1 g2)) (lw_V q121 q122 q123 q21 q124) rfl (by decide +kernel) rfl ⟨Nat.le_of_ble_eq_true rfl, Nat.le_of_ble_eq_true rfl⟩ rfl (Nat.le_of_ble_eq_true rfl) ⟨Nat.le_of_ble_eq_true rfl, Nat.le_of_ble_eq_true rfl⟩ dL_law_196 (fun z1 X' H locs hq1 hW => ?_)
  refine lv_aload_n hx hb dL_law_199 rfl (lv_at hl 2 rfl) ?_
  refine lv_aload_n hx hb dL_law_200 rfl (lv_at hl 0 rfl) ?_
  refine lv_iload_n hx hb dL_law_201 rfl (lv_at hl 3 rfl) ?_
  refine o_iconst hx hb dL_law_202 ?_
  refine o_iadd hx hb dL_law_203 ?_
  refine l_sld E hX hbl hW (by omega) (by omega) hL dL_law_204 ?_
  refine lv_aload_n hx hb dL_law_205 rfl (lv_at hl 0 rfl) ?_
  refine lv_iload_n hx hb dL_law_206 rfl (lv_at hl 3 rfl) ?_
  refine o_iconst hx hb dL_law_207 ?_
  refine o_iadd hx hb dL_law_208 ?_
  refine l_sld E hX hbl hW (by omega) (by omega) hL dL_law_209 ?_
  refine lm_call (nA := 2) (As := [.int (iI (xs (i + 1).toNat).toInt), .int (iI (xs (i + 2).toNat).toInt)]) (rest := [.int (iI z1)]) E hW hl (mm_close l D cI cZ h2 a2 S ((xs (i + 1).toNat).toInt) ((xs (i + 2).toNat).toInt) (ii_rof _) (ii_rof _) i1 i2) (lw_V q265 q266 q267 q22 q268) rfl (by decide +kernel) rfl ⟨Nat.le_of_ble_eq_true rfl, Nat.le_of_ble_eq_true rfl⟩ rfl (Nat.le_of_ble_eq_true rfl) ⟨Nat.le_of_ble_eq_true rfl, Nat.le_of_ble_eq_true rfl⟩ dL_law_210 (fun z2 S' H locs hq2 hW => ?_)
  obtain ⟨ez, HR'⟩ := tt_close HR hq1 hq2
  subst ez
  exact lv_icmp_eq (tgt := 452) hx hb dL_law_213 (by decide) (fun _ => kk X' S' H locs HR' hW) (fun q => absurd rfl q)
set_option maxHeartbeats 4000000 in
/-- fork -/
theorem lc_fork {p : Program} {l : Launch} {e : Env} {s : State} {m : MethodId} {below : List Frame} {meth : Method} {c : Code} {H : Heap} {locs : List Loc} {Q : State → Prop} {ls : Array Slot} {D : va_G} {cI cZ : ClassId} {X S : oS} {h1 h2 : Nat} {a1 a2 : Nat → Nat} {b L : Nat} {xs : Nat → Int32} {i : Int} (E : mE p s m #[Value.ref b] meth c cL_law 4 ret "DescriptorTableLaw") (hX : va_X b L xs s s.heap) (hbl : b < s.heap.size) (hL : L ≤ 256) (h0 : 0 ≤ i) (hi : i ≤ (L : Int) - 4) (HR : Rel S X) (hW : lM D cI cZ h1 a1 h2 a2 s X S H locs) (hl : lv_has ls 4 [(0, .ref b), (1, .ref h1), (2, .ref h2), (3, .int (iI i))])
    (kk : ∀ (X' S' : oS) (H : Heap) (locs : List Loc), Rel S' X' → lM D cI cZ h1 a1 h2 a2 s X' S' H locs → W p l e room_1 s m #[Value.ref b] below meth c H locs 27 1198 Q (F0 m 452 ls [])) : W p l e room_1 s m #[Value.ref b] below meth c H locs 27 1198 Q (F0 m 218 ls []) := by
  have hx := E.1
  have hb := E.2.1
  obtain ⟨b0, b1, b2, b3, b4, b5, b6, b7, b8, b9, b11, b12, b13, b14, b45⟩ := bX HR
  obtain ⟨i1, i2, i3, i4, i45, i5, i6, i7, i9, iD, iL, iU⟩ := HR.1
  refine lv_aload_n hx hb dL_law_218 rfl (lv_at hl 1 rfl) ?_
  refine lv_aload_n hx hb dL_law_219 rfl (lv_at hl 0 rfl) ?_
  refine lv_iload_n hx hb dL_law_220 rfl (lv_at hl 3 rfl) ?_
  refine o_iconst hx hb dL_law_221 ?_
  refine o_iadd hx hb dL_law_222 ?_
  refine l_sld E hX hbl hW (by omega) (by omega) hL dL_law_223 ?_
  refine lx_call (nA := 1) (As := [.int (iI (xs (i + 1).toNat).toInt)]) (rest := []) E hW hl (xm_fork l D cI cZ h1 a1 X ((xs (i + 1).toNat).toInt) (ii_rof _) b0 b1 b2) (lw_V q129 q130 q131 q21 q132) rfl (by decide +kernel) rfl ⟨Nat.le_of_ble_eq_true rfl, Nat.le_of_ble_eq_true rfl⟩ rfl (Nat.le_of_ble_eq_true rfl) ⟨Nat.le_of_ble_eq_true rfl, Nat.le_of_ble_eq_true rfl⟩ dL_law_224 (fun z1 X' H locs hq1 hW => ?_)
  refine lv_aload_n hx hb dL_law_227 rfl (lv_at hl 2 rfl) ?_
  refine lv_aload_n hx hb dL_law_228 rfl (lv_at hl 0 rfl) ?_
  refine lv_iload_n hx hb dL_law_229 rfl (lv_at hl 3 rfl) ?_
  refine o_iconst hx hb dL_law_230 ?_
  refine o_iadd hx hb dL_law_231 ?_
  refine l_sld E hX hbl hW (by omega) (by omega) hL dL_law_232 ?_
  refine lm_call (nA := 1) (As := [.int (iI (xs (i + 1).toNat).toInt)]) (rest := [.int (iI z1)]) E hW hl (mm_fork l D cI cZ h2 a2 S ((xs (i + 1).toNat).toInt) (ii_rof _) i1) (lw_V q269 q270 q271 q22 q272) rfl (by decide +kernel) rfl ⟨Nat.le_of_ble_eq_true rfl, Nat.le_of_ble_eq_true rfl⟩ rfl (Nat.le_of_ble_eq_true rfl) ⟨Nat.le_of_ble_eq_true rfl, Nat.le_of_ble_eq_true rfl⟩ dL_law_233 (fun z2 S' H locs hq2 hW => ?_)
  obtain ⟨ez, HR'⟩ := tt_fork HR hq1 hq2
  subst ez
  exact lv_icmp_eq (tgt := 452) hx hb dL_law_236 (by decide) (fun _ => kk X' S' H locs HR' hW) (fun q => absurd rfl q)
set_option maxHeartbeats 4000000 in
/-- exit -/
theorem lc_exit {p : Program} {l : Launch} {e : Env} {s : State} {m : MethodId} {below : List Frame} {meth : Method} {c : Code} {H : Heap} {locs : List Loc} {Q : State → Prop} {ls : Array Slot} {D : va_G} {cI cZ : ClassId} {X S : oS} {h1 h2 : Nat} {a1 a2 : Nat → Nat} {b L : Nat} {xs : Nat → Int32} {i : Int} (E : mE p s m #[Value.ref b] meth c cL_law 4 ret "DescriptorTableLaw") (hX : va_X b L xs s s.heap) (hbl : b < s.heap.size) (hL : L ≤ 256) (h0 : 0 ≤ i) (hi : i ≤ (L : Int) - 4) (HR : Rel S X) (hW : lM D cI cZ h1 a1 h2 a2 s X S H locs) (hl : lv_has ls 4 [(0, .ref b), (1, .ref h1), (2, .ref h2), (3, .int (iI i))])
    (kk : ∀ (X' S' : oS) (H : Heap) (locs : List Loc), Rel S' X' → lM D cI cZ h1 a1 h2 a2 s X' S' H locs → W p l e room_1 s m #[Value.ref b] below meth c H locs 27 1198 Q (F0 m 452 ls [])) : W p l e room_1 s m #[Value.ref b] below meth c H locs 27 1198 Q (F0 m 241 ls []) := by
  have hx := E.1
  have hb := E.2.1
  obtain ⟨b0, b1, b2, b3, b4, b5, b6, b7, b8, b9, b11, b12, b13, b14, b45⟩ := bX HR
  obtain ⟨i1, i2, i3, i4, i45, i5, i6, i7, i9, iD, iL, iU⟩ := HR.1
  refine lv_aload_n hx hb dL_law_241 rfl (lv_at hl 1 rfl) ?_
  refine lv_aload_n hx hb dL_law_242 rfl (lv_at hl 0 rfl) ?_
  refine lv_iload_n hx hb dL_law_243 rfl (lv_at hl 3 rfl) ?_
  refine o_iconst hx hb dL_law_244 ?_
  refine o_iadd hx hb dL_law_245 ?_
  refine l_sld E hX hbl hW (by omega) (by omega) hL dL_law_246 ?_
  refine lx_call (nA := 1) (As := [.int (iI (xs (i + 1).toNat).toInt)]) (rest := []) E hW hl (xm_exit l D cI cZ h1 a1 X ((xs (i + 1).toNat).toInt) (ii_rof _) b0 b1 (fun g => ex_B HR ⟨g.1, g.2.1⟩)) (lw_V q133 q134 q135 q21 q136) rfl (by decide +kernel) rfl ⟨Nat.le_of_ble_eq_true rfl, Nat.le_of_ble_eq_true rfl⟩ rfl (Nat.le_of_ble_eq_true rfl) ⟨Nat.le_of_ble_eq_true rfl, Nat.le_of_ble_eq_true rfl⟩ dL_law_247 (fun z1 X' H locs hq1 hW => ?_)
  refine lv_aload_n hx hb dL_law_250 rfl (lv_at hl 2 rfl) ?_
  refine lv_aload_n hx hb dL_law_251 rfl (lv_at hl 0 rfl) ?_
  refine lv_iload_n hx hb dL_law_252 rfl (lv_at hl 3 rfl) ?_
  refine o_iconst hx hb dL_law_253 ?_
  refine o_iadd hx hb dL_law_254 ?_
  refine l_sld E hX hbl hW (by omega) (by omega) hL dL_law_255 ?_
  refine lm_call (nA := 1) (As := [.int (iI (xs (i + 1).toNat).toInt)]) (rest := [.int (iI z1)]) E hW hl (mm_exit l D cI cZ h2 a2 S ((xs (i + 1).toNat).toInt) (ii_rof _) i1) (lw_V q273 q274 q275 q22 q276) rfl (by decide +kernel) rfl ⟨Nat.le_of_ble_eq_true rfl, Nat.le_of_ble_eq_true rfl⟩ rfl (Nat.le_of_ble_eq_true rfl) ⟨Nat.le_of_ble_eq_true rfl, Nat.le_of_ble_eq_true rfl⟩ dL_law_256 (fun z2 S' H locs hq2 hW => ?_)
  obtain ⟨ez, HR'⟩ := tt_exit HR hq1 hq2
  subst ez
  exact lv_icmp_eq (tgt := 452) hx hb dL_law_259 (by decide) (fun _ => kk X' S' H locs HR' hW) (fun q => absurd rfl q)
set_option maxHeartbeats 4000000 in
/-- write -/
theorem lc_write {p : Program} {l : Launch} {e : Env} {s : State} {m : MethodId} {below : List Frame} {meth : Method} {c : Code} {H : Heap} {locs : List Loc} {Q : State → Prop} {ls : Array Slot} {D : va_G} {cI cZ : ClassId} {X S : oS} {h1 h2 : Nat} {a1 a2 : Nat → Nat} {b L : Nat} {xs : Nat → Int32} {i : Int} (E : mE p s m #[Value.ref b] meth c cL_law 4 ret "DescriptorTableLaw") (hX : va_X b L xs s s.heap) (hbl : b < s.heap.size) (hL : L ≤ 256) (h0 : 0 ≤ i) (hi : i ≤ (L : Int) - 4) (HR : Rel S X) (hW : lM D cI cZ h1 a1 h2 a2 s X S H locs) (hl : lv_has ls 4 [(0, .ref b), (1, .ref h1), (2, .ref h2), (3, .int (iI i))])
    (kk : ∀ (X' S' : oS) (H : Heap) (locs : List Loc), Rel S' X' → lM D cI cZ h1 a1 h2 a2 s X' S' H locs → W p l e room_1 s m #[Value.ref b] below meth c H locs 27 1198 Q (F0 m 452 ls [])) : W p l e room_1 s m #[Value.ref b] below meth c H locs 27 1198 Q (F0 m 264 ls []) := by
  have hx := E.1
  have hb := E.2.1
  obtain ⟨b0, b1, b2, b3, b4, b5, b6, b7, b8, b9, b11, b12, b13, b14, b45⟩ := bX HR
  obtain ⟨i1, i2, i3, i4, i45, i5, i6, i7, i9, iD, iL, iU⟩ := HR.1
  refine lv_aload_n hx hb dL_law_264 rfl (lv_at hl 1 rfl) ?_
  refine lv_aload_n hx hb dL_law_265 rfl (lv_at hl 0 rfl) ?_
  refine lv_iload_n hx hb dL_law_266 rfl (lv_at hl 3 rfl) ?_
  refine o_iconst hx hb dL_law_267 ?_
  refine o_iadd hx hb dL_law_268 ?_
  refine l_sld E hX hbl hW (by omega) (by omega) hL dL_law_269 ?_
  refine lv_aload_n hx hb dL_law_270 rfl (lv_at hl 0 rfl) ?_
  refine lv_iload_n hx hb dL_law_271 rfl (lv_at hl 3 rfl) ?_
  refine o_iconst hx hb dL_law_272 ?_
  refine o_iadd hx hb dL_law_273 ?_
  refine l_sld E hX hbl hW (by omega) (by omega) hL dL_law_274 ?_
  refine lv_aload_n hx hb dL_law_275 rfl (lv_at hl 0 rfl) ?_
  refine lv_iload_n hx hb dL_law_276 rfl (lv_at hl 3 rfl) ?_
  refine o_iconst hx hb dL_law_277 ?_
  refine o_iadd hx hb dL_law_278 ?_
  refine l_sld E hX hbl hW (by omega) (by omega) hL dL_law_279 ?_
  refine lx_call (nA := 3) (As := [.int (iI (xs (i + 1).toNat).toInt), .int (iI (xs (i + 2).toNat).toInt), .int (iI (xs (i + 3).toNat).toInt)]) (rest := []) E hW hl (xm_write l D cI cZ h1 a1 X ((xs (i + 1).toNat).toInt) ((xs (i + 2).toNat).toInt) ((xs (i + 3).toNat).toInt) (ii_rof _) (ii_rof _) b1 b2 b4 b5 b6 b9 b11 b13 b14 (fun g => b45 _ g.2.2.2 (has_r b2 g))) (lw_V q137 q138 q139 q21 q140) rfl (by decide +kernel) rfl ⟨Nat.le_of_ble_eq_true rfl, Nat.le_of_ble_eq_true rfl⟩ rfl (Nat.le_of_ble_eq_true rfl) ⟨Nat.le_of_ble_eq_true rfl, Nat.le_of_ble_eq_true rfl⟩ dL_law_280 (fun z1 X' H locs hq1 hW => ?_)
  refine lv_aload_n hx hb dL_law_283 rfl (lv_at hl 2 rfl) ?_
  refine lv_aload_n hx hb dL_law_284 rfl (lv_at hl 0 rfl) ?_
  refine lv_iload_n hx hb dL_law_285 rfl (lv_at hl 3 rfl) ?_
  refine o_iconst hx hb dL_law_286 ?_
  refine o_iadd hx hb dL_law_287 ?_
  refine l_sld E hX hbl hW (by omega) (by omega) hL dL_law_288 ?_
  refine lv_aload_n hx hb dL_law_289 rfl (lv_at hl 0 rfl) ?_
  refine lv_iload_n hx hb dL_law_290 rfl (lv_at hl 3 rfl) ?_
  refine o_iconst hx hb dL_law_291 ?_
  refine o_iadd hx hb dL_law_292 ?_
  refine l_sld E hX hbl hW (by omega) (by omega) hL dL_law_293 ?_
  refine lv_aload_n hx hb dL_law_294 rfl (lv_at hl 0 rfl) ?_
  refine lv_iload_n hx hb dL_law_295 rfl (lv_at hl 3 rfl) ?_
  refine o_iconst hx hb dL_law_296 ?_
  refine o_iadd hx hb dL_law_297 ?_
  refine l_sld E hX hbl hW (by omega) (by omega) hL dL_law_298 ?_
  refine lm_call (nA := 3) (As := [.int (iI (xs (i + 1).toNat).toInt), .int (iI (xs (i + 2).toNat).toInt), .int (iI (xs (i + 3).toNat).toInt)]) (rest := [.int (iI z1)]) E hW hl (mm_write l D cI cZ h2 a2 S ((xs (i + 1).toNat).toInt) ((xs (i + 2).toNat).toInt) ((xs (i + 3).toNat).toInt) (ii_rof _) (ii_rof _) i1 i2 i3 i4 i5 i7 i9 (fun g => i45 _ g.2.2.2 (has_r i2 g))) (lw_V q277 q278 q279 q22 q280) rfl (by decide +kernel) rfl ⟨Nat.le_of_ble_eq_true rfl, Nat.le_of_ble_eq_true rfl⟩ rfl (Nat.le_of_ble_eq_true rfl) ⟨Nat.le_of_ble_eq_true rfl, Nat.le_of_ble_eq_true rfl⟩ dL_law_299 (fun z2 S' H locs hq2 hW => ?_)
  obtain ⟨ez, HR'⟩ := tt_write HR hq1 hq2
  subst ez
  exact lv_icmp_eq (tgt := 452) hx hb dL_law_302 (by decide) (fun _ => kk X' S' H locs HR' hW) (fun q => absurd rfl q)
set_option maxHeartbeats 4000000 in
/-- read -/
theorem lc_read {p : Program} {l : Launch} {e : Env} {s : State} {m : MethodId} {below : List Frame} {meth : Method} {c : Code} {H : Heap} {locs : List Loc} {Q : State → Prop} {ls : Array Slot} {D : va_G} {cI cZ : ClassId} {X S : oS} {h1 h2 : Nat} {a1 a2 : Nat → Nat} {b L : Nat} {xs : Nat → Int32} {i : Int} (E : mE p s m #[Value.ref b] meth c cL_law 4 ret "DescriptorTableLaw") (hX : va_X b L xs s s.heap) (hbl : b < s.heap.size) (hL : L ≤ 256) (h0 : 0 ≤ i) (hi : i ≤ (L : Int) - 4) (HR : Rel S X) (hW : lM D cI cZ h1 a1 h2 a2 s X S H locs) (hl : lv_has ls 4 [(0, .ref b), (1, .ref h1), (2, .ref h2), (3, .int (iI i))])
    (kk : ∀ (X' S' : oS) (H : Heap) (locs : List Loc), Rel S' X' → lM D cI cZ h1 a1 h2 a2 s X' S' H locs → W p l e room_1 s m #[Value.ref b] below meth c H locs 27 1198 Q (F0 m 452 ls [])) : W p l e room_1 s m #[Value.ref b] below meth c H locs 27 1198 Q (F0 m 307 ls []) := by
  have hx := E.1
  have hb := E.2.1
  obtain ⟨b0, b1, b2, b3, b4, b5, b6, b7, b8, b9, b11, b12, b13, b14, b45⟩ := bX HR
  obtain ⟨i1, i2, i3, i4, i45, i5, i6, i7, i9, iD, iL, iU⟩ := HR.1
  refine lv_aload_n hx hb dL_law_307 rfl (lv_at hl 1 rfl) ?_
  refine lv_aload_n hx hb dL_law_308 rfl (lv_at hl 0 rfl) ?_
  refine lv_iload_n hx hb dL_law_309 rfl (lv_at hl 3 rfl) ?_
  refine o_iconst hx hb dL_law_310 ?_
  refine o_iadd hx hb dL_law_311 ?_
  refine l_sld E hX hbl hW (by omega) (by omega) hL dL_law_312 ?_
  refine lv_aload_n hx hb dL_law_313 rfl (lv_at hl 0 rfl) ?_
  refine lv_iload_n hx hb dL_law_314 rfl (lv_at hl 3 rfl) ?_
  refine o_iconst hx hb dL_law_315 ?_
  refine o_iadd hx hb dL_law_316 ?_
  refine l_sld E hX hbl hW (by omega) (by omega) hL dL_law_317 ?_
  refine lx_call (nA := 2) (As := [.int (iI (xs (i + 1).toNat).toInt), .int (iI (xs (i + 2).toNat).toInt)]) (rest := []) E hW hl (xm_read l D cI cZ h1 a1 X ((xs (i + 1).toNat).toInt) ((xs (i + 2).toNat).toInt) (ii_rof _) (ii_rof _) b1 b2 b4 b5 b6 b9 b12 b13 b14 (fun g => b45 _ g.2.2.2 (has_r b2 g))) (lw_V q149 q150 q151 q21 q152) rfl (by decide +kernel) rfl ⟨Nat.le_of_ble_eq_true rfl, Nat.le_of_ble_eq_true rfl⟩ rfl (Nat.le_of_ble_eq_true rfl) ⟨Nat.le_of_ble_eq_true rfl, Nat.le_of_ble_eq_true rfl⟩ dL_law_318 (fun z1 X' H locs hq1 hW => ?_)
  refine lv_aload_n hx hb dL_law_321 rfl (lv_at hl 2 rfl) ?_
  refine lv_aload_n hx hb dL_law_322 rfl (lv_at hl 0 rfl) ?_
  refine lv_iload_n hx hb dL_law_323 rfl (lv_at hl 3 rfl) ?_
  refine o_iconst hx hb dL_law_324 ?_
  refine o_iadd hx hb dL_law_325 ?_
  refine l_sld E hX hbl hW (by omega) (by omega) hL dL_law_326 ?_
  refine lv_aload_n hx hb dL_law_327 rfl (lv_at hl 0 rfl) ?_
  refine lv_iload_n hx hb dL_law_328 rfl (lv_at hl 3 rfl) ?_
  refine o_iconst hx hb dL_law_329 ?_
  refine o_iadd hx hb dL_law_330 ?_
  refine l_sld E hX hbl hW (by omega) (by omega) hL dL_law_331 ?_
  refine lm_call (nA := 2) (As := [.int (iI (xs (i + 1).toNat).toInt), .int (iI (xs (i + 2).toNat).toInt)]) (rest := [.int (iI z1)]) E hW hl (mm_read l D cI cZ h2 a2 S ((xs (i + 1).toNat).toInt) ((xs (i + 2).toNat).toInt) (ii_rof _) (ii_rof _) i1 i2 i3 i4 i5 i7 i9 (fun g => i45 _ g.2.2.2 (has_r i2 g)) (fun g => iL _ g.2.2.2 (has_r i2 g) (has_o g))) (lw_V q281 q282 q283 q22 q284) rfl (by decide +kernel) rfl ⟨Nat.le_of_ble_eq_true rfl, Nat.le_of_ble_eq_true rfl⟩ rfl (Nat.le_of_ble_eq_true rfl) ⟨Nat.le_of_ble_eq_true rfl, Nat.le_of_ble_eq_true rfl⟩ dL_law_332 (fun z2 S' H locs hq2 hW => ?_)
  obtain ⟨ez, HR'⟩ := tt_read HR hq1 hq2
  subst ez
  exact lv_icmp_eq (tgt := 452) hx hb dL_law_335 (by decide) (fun _ => kk X' S' H locs HR' hW) (fun q => absurd rfl q)
set_option maxHeartbeats 4000000 in
/-- seek -/
theorem lc_seek {p : Program} {l : Launch} {e : Env} {s : State} {m : MethodId} {below : List Frame} {meth : Method} {c : Code} {H : Heap} {locs : List Loc} {Q : State → Prop} {ls : Array Slot} {D : va_G} {cI cZ : ClassId} {X S : oS} {h1 h2 : Nat} {a1 a2 : Nat → Nat} {b L : Nat} {xs : Nat → Int32} {i : Int} (E : mE p s m #[Value.ref b] meth c cL_law 4 ret "DescriptorTableLaw") (hX : va_X b L xs s s.heap) (hbl : b < s.heap.size) (hL : L ≤ 256) (h0 : 0 ≤ i) (hi : i ≤ (L : Int) - 4) (HR : Rel S X) (hW : lM D cI cZ h1 a1 h2 a2 s X S H locs) (hl : lv_has ls 4 [(0, .ref b), (1, .ref h1), (2, .ref h2), (3, .int (iI i))])
    (kk : ∀ (X' S' : oS) (H : Heap) (locs : List Loc), Rel S' X' → lM D cI cZ h1 a1 h2 a2 s X' S' H locs → W p l e room_1 s m #[Value.ref b] below meth c H locs 27 1198 Q (F0 m 452 ls [])) : W p l e room_1 s m #[Value.ref b] below meth c H locs 27 1198 Q (F0 m 340 ls []) := by
  have hx := E.1
  have hb := E.2.1
  obtain ⟨b0, b1, b2, b3, b4, b5, b6, b7, b8, b9, b11, b12, b13, b14, b45⟩ := bX HR
  obtain ⟨i1, i2, i3, i4, i45, i5, i6, i7, i9, iD, iL, iU⟩ := HR.1
  refine lv_aload_n hx hb dL_law_340 rfl (lv_at hl 1 rfl) ?_
  refine lv_aload_n hx hb dL_law_341 rfl (lv_at hl 0 rfl) ?_
  refine lv_iload_n hx hb dL_law_342 rfl (lv_at hl 3 rfl) ?_
  refine o_iconst hx hb dL_law_343 ?_
  refine o_iadd hx hb dL_law_344 ?_
  refine l_sld E hX hbl hW (by omega) (by omega) hL dL_law_345 ?_
  refine lv_aload_n hx hb dL_law_346 rfl (lv_at hl 0 rfl) ?_
  refine lv_iload_n hx hb dL_law_347 rfl (lv_at hl 3 rfl) ?_
  refine o_iconst hx hb dL_law_348 ?_
  refine o_iadd hx hb dL_law_349 ?_
  refine l_sld E hX hbl hW (by omega) (by omega) hL dL_law_350 ?_
  refine lv_aload_n hx hb dL_law_351 rfl (lv_at hl 0 rfl) ?_
  refine lv_iload_n hx hb dL_law_352 rfl (lv_at hl 3 rfl) ?_
  refine o_iconst hx hb dL_law_353 ?_
  refine o_iadd hx hb dL_law_354 ?_
  refine l_sld E hX hbl hW (by omega) (by omega) hL dL_law_355 ?_
  refine lx_call (nA := 3) (As := [.int (iI (xs (i + 1).toNat).toInt), .int (iI (xs (i + 2).toNat).toInt), .int (iI (xs (i + 3).toNat).toInt)]) (rest := []) E hW hl (xm_seek l D cI cZ h1 a1 X ((xs (i + 1).toNat).toInt) ((xs (i + 2).toNat).toInt) ((xs (i + 3).toNat).toInt) (ii_rof _) (ii_rof _) b1 b2 b4 b5 b6 b9 (ii_rof _)) (lw_V q161 q162 q163 q21 q164) rfl (by decide +kernel) rfl ⟨Nat.le_of_ble_eq_true rfl, Nat.le_of_ble_eq_true rfl⟩ rfl (Nat.le_of_ble_eq_true rfl) ⟨Nat.le_of_ble_eq_true rfl, Nat.le_of_ble_eq_true rfl⟩ dL_law_356 (fun z1 X' H locs hq1 hW => ?_)
  refine lv_aload_n hx hb dL_law_359 rfl (lv_at hl 2 rfl) ?_
  refine lv_aload_n hx hb dL_law_360 rfl (lv_at hl 0 rfl) ?_
  refine lv_iload_n hx hb dL_law_361 rfl (lv_at hl 3 rfl) ?_
  refine o_iconst hx hb dL_law_362 ?_
  refine o_iadd hx hb dL_law_363 ?_
  refine l_sld E hX hbl hW (by omega) (by omega) hL dL_law_364 ?_
  refine lv_aload_n hx hb dL_law_365 rfl (lv_at hl 0 rfl) ?_
  refine lv_iload_n hx hb dL_law_366 rfl (lv_at hl 3 rfl) ?_
  refine o_iconst hx hb dL_law_367 ?_
  refine o_iadd hx hb dL_law_368 ?_
  refine l_sld E hX hbl hW (by omega) (by omega) hL dL_law_369 ?_
  refine lv_aload_n hx hb dL_law_370 rfl (lv_at hl 0 rfl) ?_
  refine lv_iload_n hx hb dL_law_371 rfl (lv_at hl 3 rfl) ?_
  refine o_iconst hx hb dL_law_372 ?_
  refine o_iadd hx hb dL_law_373 ?_
  refine l_sld E hX hbl hW (by omega) (by omega) hL dL_law_374 ?_
  refine lm_call (nA := 3) (As := [.int (iI (xs (i + 1).toNat).toInt), .int (iI (xs (i + 2).toNat).toInt), .int (iI (xs (i + 3).toNat).toInt)]) (rest := [.int (iI z1)]) E hW hl (mm_seek l D cI cZ h2 a2 S ((xs (i + 1).toNat).toInt) ((xs (i + 2).toNat).toInt) ((xs (i + 3).toNat).toInt) (ii_rof _) (ii_rof _) i1 i2 i3 i4 i5 i7 (ii_rof _)) (lw_V q285 q286 q287 q22 q288) rfl (by decide +kernel) rfl ⟨Nat.le_of_ble_eq_true rfl, Nat.le_of_ble_eq_true rfl⟩ rfl (Nat.le_of_ble_eq_true rfl) ⟨Nat.le_of_ble_eq_true rfl, Nat.le_of_ble_eq_true rfl⟩ dL_law_375 (fun z2 S' H locs hq2 hW => ?_)
  obtain ⟨ez, HR'⟩ := tt_seek HR hq1 hq2
  subst ez
  exact lv_icmp_eq (tgt := 452) hx hb dL_law_378 (by decide) (fun _ => kk X' S' H locs HR' hW) (fun q => absurd rfl q)
set_option maxHeartbeats 4000000 in
/-- link -/
theorem lc_link {p : Program} {l : Launch} {e : Env} {s : State} {m : MethodId} {below : List Frame} {meth : Method} {c : Code} {H : Heap} {locs : List Loc} {Q : State → Prop} {ls : Array Slot} {D : va_G} {cI cZ : ClassId} {X S : oS} {h1 h2 : Nat} {a1 a2 : Nat → Nat} {b L : Nat} {xs : Nat → Int32} {i : Int} (E : mE p s m #[Value.ref b] meth c cL_law 4 ret "DescriptorTableLaw") (hX : va_X b L xs s s.heap) (hbl : b < s.heap.size) (hL : L ≤ 256) (h0 : 0 ≤ i) (hi : i ≤ (L : Int) - 4) (HR : Rel S X) (hW : lM D cI cZ h1 a1 h2 a2 s X S H locs) (hl : lv_has ls 4 [(0, .ref b), (1, .ref h1), (2, .ref h2), (3, .int (iI i))])
    (kk : ∀ (X' S' : oS) (H : Heap) (locs : List Loc), Rel S' X' → lM D cI cZ h1 a1 h2 a2 s X' S' H locs → W p l e room_1 s m #[Value.ref b] below meth c H locs 27 1198 Q (F0 m 452 ls [])) : W p l e room_1 s m #[Value.ref b] below meth c H locs 27 1198 Q (F0 m 383 ls []) := by
  have hx := E.1
  have hb := E.2.1
  obtain ⟨b0, b1, b2, b3, b4, b5, b6, b7, b8, b9, b11, b12, b13, b14, b45⟩ := bX HR
  obtain ⟨i1, i2, i3, i4, i45, i5, i6, i7, i9, iD, iL, iU⟩ := HR.1
  refine lv_aload_n hx hb dL_law_383 rfl (lv_at hl 1 rfl) ?_
  refine lv_aload_n hx hb dL_law_384 rfl (lv_at hl 0 rfl) ?_
  refine lv_iload_n hx hb dL_law_385 rfl (lv_at hl 3 rfl) ?_
  refine o_iconst hx hb dL_law_386 ?_
  refine o_iadd hx hb dL_law_387 ?_
  refine l_sld E hX hbl hW (by omega) (by omega) hL dL_law_388 ?_
  refine lv_aload_n hx hb dL_law_389 rfl (lv_at hl 0 rfl) ?_
  refine lv_iload_n hx hb dL_law_390 rfl (lv_at hl 3 rfl) ?_
  refine o_iconst hx hb dL_law_391 ?_
  refine o_iadd hx hb dL_law_392 ?_
  refine l_sld E hX hbl hW (by omega) (by omega) hL dL_law_393 ?_
  refine lx_call (nA := 2) (As := [.int (iI (xs (i + 1).toNat).toInt), .int (iI (xs (i + 2).toNat).toInt)]) (rest := []) E hW hl (xm_link l D cI cZ h1 a1 X ((xs (i + 1).toNat).toInt) ((xs (i + 2).toNat).toInt) (ii_rof _) (ii_rof _) b7) (lw_V q165 q166 q167 q21 q168) rfl (by decide +kernel) rfl ⟨Nat.le_of_ble_eq_true rfl, Nat.le_of_ble_eq_true rfl⟩ rfl (Nat.le_of_ble_eq_true rfl) ⟨Nat.le_of_ble_eq_true rfl, Nat.le_of_ble_eq_true rfl⟩ dL_law_394 (fun z1 X' H locs hq1 hW => ?_)
  refine lv_aload_n hx hb dL_law_397 rfl (lv_at hl 2 rfl) ?_
  refine lv_aload_n hx hb dL_law_398 rfl (lv_at hl 0 rfl) ?_
  refine lv_iload_n hx hb dL_law_399 rfl (lv_at hl 3 rfl) ?_
  refine o_iconst hx hb dL_law_400 ?_
  refine o_iadd hx hb dL_law_401 ?_
  refine l_sld E hX hbl hW (by omega) (by omega) hL dL_law_402 ?_
  refine lv_aload_n hx hb dL_law_403 rfl (lv_at hl 0 rfl) ?_
  refine lv_iload_n hx hb dL_law_404 rfl (lv_at hl 3 rfl) ?_
  refine o_iconst hx hb dL_law_405 ?_
  refine o_iadd hx hb dL_law_406 ?_
  refine l_sld E hX hbl hW (by omega) (by omega) hL dL_law_407 ?_
  refine lm_call (nA := 2) (As := [.int (iI (xs (i + 1).toNat).toInt), .int (iI (xs (i + 2).toNat).toInt)]) (rest := [.int (iI z1)]) E hW hl (mm_link l D cI cZ h2 a2 S ((xs (i + 1).toNat).toInt) ((xs (i + 2).toNat).toInt) (ii_rof _) (ii_rof _) i6) (lw_V q289 q290 q291 q22 q292) rfl (by decide +kernel) rfl ⟨Nat.le_of_ble_eq_true rfl, Nat.le_of_ble_eq_true rfl⟩ rfl (Nat.le_of_ble_eq_true rfl) ⟨Nat.le_of_ble_eq_true rfl, Nat.le_of_ble_eq_true rfl⟩ dL_law_408 (fun z2 S' H locs hq2 hW => ?_)
  obtain ⟨ez, HR'⟩ := tt_link HR hq1 hq2
  subst ez
  exact lv_icmp_eq (tgt := 452) hx hb dL_law_411 (by decide) (fun _ => kk X' S' H locs HR' hW) (fun q => absurd rfl q)
set_option maxHeartbeats 4000000 in
/-- unlink -/
theorem lc_unlink {p : Program} {l : Launch} {e : Env} {s : State} {m : MethodId} {below : List Frame} {meth : Method} {c : Code} {H : Heap} {locs : List Loc} {Q : State → Prop} {ls : Array Slot} {D : va_G} {cI cZ : ClassId} {X S : oS} {h1 h2 : Nat} {a1 a2 : Nat → Nat} {b L : Nat} {xs : Nat → Int32} {i : Int} (E : mE p s m #[Value.ref b] meth c cL_law 4 ret "DescriptorTableLaw") (hX : va_X b L xs s s.heap) (hbl : b < s.heap.size) (hL : L ≤ 256) (h0 : 0 ≤ i) (hi : i ≤ (L : Int) - 4) (HR : Rel S X) (hW : lM D cI cZ h1 a1 h2 a2 s X S H locs) (hl : lv_has ls 4 [(0, .ref b), (1, .ref h1), (2, .ref h2), (3, .int (iI i))])
    (kk : ∀ (X' S' : oS) (H : Heap) (locs : List Loc), Rel S' X' → lM D cI cZ h1 a1 h2 a2 s X' S' H locs → W p l e room_1 s m #[Value.ref b] below meth c H locs 27 1198 Q (F0 m 452 ls [])) : W p l e room_1 s m #[Value.ref b] below meth c H locs 27 1198 Q (F0 m 416 ls []) := by
  have hx := E.1
  have hb := E.2.1
  obtain ⟨b0, b1, b2, b3, b4, b5, b6, b7, b8, b9, b11, b12, b13, b14, b45⟩ := bX HR
  obtain ⟨i1, i2, i3, i4, i45, i5, i6, i7, i9, iD, iL, iU⟩ := HR.1
  refine lv_aload_n hx hb dL_law_416 rfl (lv_at hl 1 rfl) ?_
  refine lv_aload_n hx hb dL_law_417 rfl (lv_at hl 0 rfl) ?_
  refine lv_iload_n hx hb dL_law_418 rfl (lv_at hl 3 rfl) ?_
  refine o_iconst hx hb dL_law_419 ?_
  refine o_iadd hx hb dL_law_420 ?_
  refine l_sld E hX hbl hW (by omega) (by omega) hL dL_law_421 ?_
  refine lx_call (nA := 1) (As := [.int (iI (xs (i + 1).toNat).toInt)]) (rest := []) E hW hl (xm_unlink l D cI cZ h1 a1 X ((xs (i + 1).toNat).toInt) (ii_rof _) b7) (lw_V q169 q170 q171 q21 q172) rfl (by decide +kernel) rfl ⟨Nat.le_of_ble_eq_true rfl, Nat.le_of_ble_eq_true rfl⟩ rfl (Nat.le_of_ble_eq_true rfl) ⟨Nat.le_of_ble_eq_true rfl, Nat.le_of_ble_eq_true rfl⟩ dL_law_422 (fun z1 X' H locs hq1 hW => ?_)
  refine lv_aload_n hx hb dL_law_425 rfl (lv_at hl 2 rfl) ?_
  refine lv_aload_n hx hb dL_law_426 rfl (lv_at hl 0 rfl) ?_
  refine lv_iload_n hx hb dL_law_427 rfl (lv_at hl 3 rfl) ?_
  refine o_iconst hx hb dL_law_428 ?_
  refine o_iadd hx hb dL_law_429 ?_
  refine l_sld E hX hbl hW (by omega) (by omega) hL dL_law_430 ?_
  refine lm_call (nA := 1) (As := [.int (iI (xs (i + 1).toNat).toInt)]) (rest := [.int (iI z1)]) E hW hl (mm_unlink l D cI cZ h2 a2 S ((xs (i + 1).toNat).toInt) (ii_rof _) i6) (lw_V q293 q294 q295 q22 q296) rfl (by decide +kernel) rfl ⟨Nat.le_of_ble_eq_true rfl, Nat.le_of_ble_eq_true rfl⟩ rfl (Nat.le_of_ble_eq_true rfl) ⟨Nat.le_of_ble_eq_true rfl, Nat.le_of_ble_eq_true rfl⟩ dL_law_431 (fun z2 S' H locs hq2 hW => ?_)
  obtain ⟨ez, HR'⟩ := tt_unlink HR hq1 hq2
  subst ez
  exact lv_icmp_eq (tgt := 452) hx hb dL_law_434 (by decide) (fun _ => kk X' S' H locs HR' hW) (fun q => absurd rfl q)
set_option maxHeartbeats 4000000 in
/-- counts -/
theorem lc_counts {p : Program} {l : Launch} {e : Env} {s : State} {m : MethodId} {below : List Frame} {meth : Method} {c : Code} {H : Heap} {locs : List Loc} {Q : State → Prop} {ls : Array Slot} {D : va_G} {cI cZ : ClassId} {X S : oS} {h1 h2 : Nat} {a1 a2 : Nat → Nat} {b L : Nat} {xs : Nat → Int32} {i : Int} (E : mE p s m #[Value.ref b] meth c cL_law 4 ret "DescriptorTableLaw") (hX : va_X b L xs s s.heap) (hbl : b < s.heap.size) (hL : L ≤ 256) (h0 : 0 ≤ i) (hi : i ≤ (L : Int) - 4) (HR : Rel S X) (hW : lM D cI cZ h1 a1 h2 a2 s X S H locs) (hl : lv_has ls 4 [(0, .ref b), (1, .ref h1), (2, .ref h2), (3, .int (iI i))])
    (kk : ∀ (X' S' : oS) (H : Heap) (locs : List Loc), Rel S' X' → lM D cI cZ h1 a1 h2 a2 s X' S' H locs → W p l e room_1 s m #[Value.ref b] below meth c H locs 27 1198 Q (F0 m 452 ls [])) : W p l e room_1 s m #[Value.ref b] below meth c H locs 27 1198 Q (F0 m 439 ls []) := by
  have hx := E.1
  have hb := E.2.1
  obtain ⟨b0, b1, b2, b3, b4, b5, b6, b7, b8, b9, b11, b12, b13, b14, b45⟩ := bX HR
  obtain ⟨i1, i2, i3, i4, i45, i5, i6, i7, i9, iD, iL, iU⟩ := HR.1
  refine lv_aload_n hx hb dL_law_439 rfl (lv_at hl 1 rfl) ?_
  refine lx_call (nA := 0) (As := []) (rest := []) E hW hl (xm_counts l D cI cZ h1 a1 X  b3 b8 b11 b12) (lw_V q173 q174 q175 q21 q176) rfl (by decide +kernel) rfl ⟨Nat.le_of_ble_eq_true rfl, Nat.le_of_ble_eq_true rfl⟩ rfl (Nat.le_of_ble_eq_true rfl) ⟨Nat.le_of_ble_eq_true rfl, Nat.le_of_ble_eq_true rfl⟩ dL_law_440 (fun z1 X' H locs hq1 hW => ?_)
  refine lv_aload_n hx hb dL_law_443 rfl (lv_at hl 2 rfl) ?_
  refine lm_call (nA := 0) (As := []) (rest := [.int (iI z1)]) E hW hl (mm_counts l D cI cZ h2 a2 S  i2 i3 i4 i6) (lw_V q297 q298 q299 q22 q300) rfl (by decide +kernel) rfl ⟨Nat.le_of_ble_eq_true rfl, Nat.le_of_ble_eq_true rfl⟩ rfl (Nat.le_of_ble_eq_true rfl) ⟨Nat.le_of_ble_eq_true rfl, Nat.le_of_ble_eq_true rfl⟩ dL_law_444 (fun z2 S' H locs hq2 hW => ?_)
  obtain ⟨ez, HR'⟩ := tt_counts HR hq1 hq2
  subst ez
  exact lv_icmp_eq (tgt := 452) hx hb dL_law_447 (by decide) (fun _ => kk X' S' H locs HR' hW) (fun q => absurd rfl q)
end
section
/-! THE CLAIM OUT OF ONE WALK OF THE LAW'S BODY. Your part is whole_start (and what it stands on); all else here is the same for every law, but numbers. -/
def R_law : String := "DescriptorTableLaw"
def lw_P (b : Addr) (xs : List Int32) (args : Array Value) (s : State) : Prop := args = #[.ref b] ∧ s.IntsAt b xs ∧ xs.length ≤ 256 ∧ (Jvm.Cond.and given_1 narrow_1).before args s = true
def lw_Q (_ : Array Value) (s : State) (o : Outcome) (t : State) : Prop := o = .returned (some (.int 1)) ∧ Framed s o t [] 600000 7290000
def lw_Z (below : List Frame) (a : Array Value) (s : State) : State → Prop := fun t => ∃ o, t.status = .running ∧ Ended t below o ∧ lw_Q a s o t
/-- the law's own end, with 1 on the stack, nothing written that was there before, its room as the claim has it -/
theorem lw_ret {p : Program} {l : Launch} {e : Env} {s : State} {m : MethodId} {below : List Frame} {meth : Method} {c : Code} {b : Nat} (hx : p.tables.exec = Jvm.exec) (hb : c.code = code) (hr : meth.sig.returnType = ret) (hlocks : meth.locks = false) {pc : Nat} {H : Heap} {ls : Array Slot} (hdg : decode code pc = .ok (.ireturn, 1)) : W p l e room_1 s m #[Value.ref b] below meth c H [] 600000 7290000 (lw_Z below #[Value.ref b] s) (F0 m pc ls [.int 1]) := by
  intro T hT X
  obtain ⟨fs, hret, hrun, hended, hW, hframe⟩ := X.leave (v := some (.int 1)) (hlocks := hlocks) (fun h => by rw [hr] at h; cases h)
  have hmeth' : T.vm.method? m = some meth := X.method'
  refine ⟨T.setFrames fs, ?_, .returned (some (.int 1)), hrun, hended, rfl, ⟨_, rfl⟩, hW, hframe⟩
  jvm_step X.here [X.here.top, hx, hb, hdg, hmeth', hr, ret, narrow_b1]
  (try refine ⟨rfl, ?_⟩); (try refine ⟨rfl, ?_⟩)
  first | (intro acts; rw [hret _ acts rfl rfl rfl]) | rw [hret _ _ rfl rfl rfl]
  exact Steps.refl _
/-- what holds at the law's entry: the machine, the code, the tables' words (any of lw_tbl by 'hts w (by decide +kernel)'), the script of L ints xs at the cell b, what the Statement gives of the start (any of its parts by flat_of_before) -/
def lw_At (p : Program) (s : State) (m : MethodId) (meth : Method) (c : Code) (b L : Nat) (xs : Nat → Int32) : Prop :=
  p.tables.exec = Jvm.exec ∧ c.code = code ∧ meth.sig.returnType = ret ∧ c.maxLocals = 4 ∧ s.vm.findClass R_law = some m.cls ∧ (∀ w ∈ lw_tbl, w.before #[Value.ref b] s = true) ∧ va_X b L xs s s.heap ∧ b < s.heap.size ∧ meth.locks = false ∧ (Jvm.Cond.and given_1 narrow_1).before #[Value.ref b] s = true
end
section
/-! the law: its loop, and its walk from the entry -/
set_option maxRecDepth 100000
theorem lw_E {p : Program} {s : State} {m : MethodId} {meth : Method} {c : Code} {b L : Nat} {xs : Nat → Int32} (C0 : lw_At p s m meth c b L xs) : mE p s m #[Value.ref b] meth c cL_law 4 ret "DescriptorTableLaw" :=
  ⟨C0.1, C0.2.1, C0.2.2.2.1, C0.2.2.2.2.1, fun w h => C0.2.2.2.2.2.1 w (lw_all_tbl h), C0.2.2.1, C0.2.2.2.2.2.2.2.2.1⟩
set_option maxHeartbeats 8000000 in
/-- the law's loop at its head -/
theorem law_loop {p : Program} {l : Launch} {e : Env} {s : State} {m : MethodId} {below : List Frame} {meth : Method} {c : Code} {D : va_G} {cI cZ : ClassId} {h1 h2 : Nat} {a1 a2 : Nat → Nat} {b L : Nat} {xs : Nat → Int32} (hL : L ≤ 256) (C0 : lw_At p s m meth c b L xs) :
    ∀ (n : Nat) (i : Int) (X S : oS) (H : Heap) (locs : List Loc) (ls : Array Slot), (L : Int) - i < (n : Int) → 0 ≤ i → i ≤ (L : Int) → Rel S X → lM D cI cZ h1 a1 h2 a2 s X S H locs → lv_has ls 4 [(0, .ref b), (1, .ref h1), (2, .ref h2), (3, .int (iI i))] → W p l e room_1 s m #[Value.ref b] below meth c H locs 27 1198 (lw_Z below #[Value.ref b] s) (F0 m 18 ls []) := by
  have E := lw_E C0
  have hx := E.1
  have hb := E.2.1
  obtain ⟨-, -, hr, -, -, -, hX, hbl, hlocks, -⟩ := C0
  intro n
  induction n with
  | zero =>
    intro i X S H locs ls hn h0 h1
    exfalso
    omega
  | succ n ih =>
    intro i X S H locs ls hn h0 hi1 HR hW hl
    refine lv_iload_n hx hb dL_law_18 rfl (lv_at hl 3 rfl) ?_
    refine lv_aload_n hx hb dL_law_19 rfl (lv_at hl 0 rfl) ?_
    refine l_slen E hX hbl hW dL_law_20 ?_
    refine o_iconst hx hb dL_law_21 ?_
    refine o_isub hx hb dL_law_22 ?_
    refine o_cgt (tgt := 458) hx hb dL_law_23 (by decide) (by omega) (by omega) (fun c1 => ?_) (fun c1 => ?_)
    · refine lv_iconst (v := 1) hx hb dL_law_458 (by decide) ?_
      refine va_forget (fun q hq => hW.2.2.2.2.2.2.2.2 q hq) ?_
      refine W.widen (k := 600000) (n := 7290000) (Nat.le_of_ble_eq_true rfl) (Nat.le_of_ble_eq_true rfl) ?_
      exact lw_ret hx hb hr hlocks dL_law_459
    · have nx : ∀ (X' S' : oS) (H : Heap) (locs : List Loc), Rel S' X' → lM D cI cZ h1 a1 h2 a2 s X' S' H locs → W p l e room_1 s m #[Value.ref b] below meth c H locs 27 1198 (lw_Z below #[Value.ref b] s) (F0 m 452 ls []) := by
        intro X' S' H locs HR hW
        refine o_iinc (lv' := [(3, .int (iI (i + 4))), (0, .ref b), (1, .ref h1), (2, .ref h2)]) hx hb dL_law_452 hl (k := 3) rfl (by decide) rfl (fun ls hl => ?_)
        refine lv_goto (tgt := 18) hx hb dL_law_455 (by decide) ?_
        exact ih (i + 4) X' S' H locs ls (by omega) (by omega) (by omega) HR hW (lv_sub hl [1, 2, 3, 0] rfl)
      refine lv_aload_n hx hb dL_law_26 rfl (lv_at hl 0 rfl) ?_
      refine lv_iload_n hx hb dL_law_27 rfl (lv_at hl 3 rfl) ?_
      refine l_sld E hX hbl hW (by omega) (by omega) hL dL_law_28 ?_
      refine o_bipush hx hb dL_law_29 (by decide) ?_
      refine lv_iand hx hb dL_law_31 ?_
      generalize iI (xs i.toNat).toInt &&& iI 15 = k
      by_cases k0 : k.toInt = 0
      · exact lv_tableIn (tgt := 96) hx hb dL_law_32 (by omega) (by omega) (off := 64) (by rw [k0]; rfl) (by decide) (lc_open E hX hbl hL h0 c1 HR hW hl nx)
      by_cases k1 : k.toInt = 1
      · exact lv_tableIn (tgt := 129) hx hb dL_law_32 (by omega) (by omega) (off := 97) (by rw [k1]; rfl) (by decide) (lc_pipe E hX hbl hL h0 c1 HR hW hl nx)
      by_cases k2 : k.toInt = 2
      · exact lv_tableIn (tgt := 152) hx hb dL_law_32 (by omega) (by omega) (off := 120) (by rw [k2]; rfl) (by decide) (lc_dup E hX hbl hL h0 c1 HR hW hl nx)
      by_cases k3 : k.toInt = 3
      · exact lv_tableIn (tgt := 185) hx hb dL_law_32 (by omega) (by omega) (off := 153) (by rw [k3]; rfl) (by decide) (lc_close E hX hbl hL h0 c1 HR hW hl nx)
      by_cases k4 : k.toInt = 4
      · exact lv_tableIn (tgt := 218) hx hb dL_law_32 (by omega) (by omega) (off := 186) (by rw [k4]; rfl) (by decide) (lc_fork E hX hbl hL h0 c1 HR hW hl nx)
      by_cases k5 : k.toInt = 5
      · exact lv_tableIn (tgt := 241) hx hb dL_law_32 (by omega) (by omega) (off := 209) (by rw [k5]; rfl) (by decide) (lc_exit E hX hbl hL h0 c1 HR hW hl nx)
      by_cases k6 : k.toInt = 6
      · exact lv_tableIn (tgt := 264) hx hb dL_law_32 (by omega) (by omega) (off := 232) (by rw [k6]; rfl) (by decide) (lc_write E hX hbl hL h0 c1 HR hW hl nx)
      by_cases k7 : k.toInt = 7
      · exact lv_tableIn (tgt := 307) hx hb dL_law_32 (by omega) (by omega) (off := 275) (by rw [k7]; rfl) (by decide) (lc_read E hX hbl hL h0 c1 HR hW hl nx)
      by_cases k8 : k.toInt = 8
      · exact lv_tableIn (tgt := 340) hx hb dL_law_32 (by omega) (by omega) (off := 308) (by rw [k8]; rfl) (by decide) (lc_seek E hX hbl hL h0 c1 HR hW hl nx)
      by_cases k9 : k.toInt = 9
      · exact lv_tableIn (tgt := 383) hx hb dL_law_32 (by omega) (by omega) (off := 351) (by rw [k9]; rfl) (by decide) (lc_link E hX hbl hL h0 c1 HR hW hl nx)
      by_cases k10 : k.toInt = 10
      · exact lv_tableIn (tgt := 416) hx hb dL_law_32 (by omega) (by omega) (off := 384) (by rw [k10]; rfl) (by decide) (lc_unlink E hX hbl hL h0 c1 HR hW hl nx)
      by_cases k11 : k.toInt = 11
      · exact lv_tableIn (tgt := 439) hx hb dL_law_32 (by omega) (by omega) (off := 407) (by rw [k11]; rfl) (by decide) (lc_counts E hX hbl hL h0 c1 HR hW hl nx)
      exact lv_tableOut (tgt := 452) hx hb dL_law_32 (by omega) (by decide) (nx X S H locs HR hW)
set_option maxHeartbeats 8000000 in
/-- the law, from its entry -/
theorem whole_start {p : Program} {e : Env} {s : State} {m : MethodId} {below : List Frame} {meth : Method} {c : Code} (l : Launch) {b L : Nat} {xs : Nat → Int32} (hL : L ≤ 256) (C0 : lw_At p s m meth c b L xs) : W p l e room_1 s m #[Value.ref b] below meth c s.heap [] 0 0 (lw_Z below #[Value.ref b] s) (entryFrame m ([Value.ref b] : List Value).toArray 4) := by
  have E := lw_E C0
  obtain ⟨hx, hb, hr, hml, hown, hts0, hX, hbl, hlocks, hgv⟩ := id C0
  have hb : c.code = cL_law := hb
  have hts : ∀ w ∈ lw_all, w.before #[Value.ref b] s = true := fun w h => hts0 w (lw_all_tbl h)
  have hA : ∀ q : Nat, s.heap.size ≤ q → lA s q := fun _ h => h
  obtain ⟨c0, iS0, hKn0⟩ := u_known (C := RX0) (T := TX0) (N := 16) (n := 16) hts in_X0 (hts _ q24)
  obtain ⟨c1, iS1, hKn1⟩ := u_known (C := RX1) (T := TX1) (N := 10) (n := 10) hts in_X1 (hts _ q178)
  obtain ⟨D, hKc⟩ : ∃ D : va_G, ∀ (k : Nat) (q : vw_C), vwCl[k]? = some q → u_Kn s q.1 q.2.1 q.2.2 (D.1 k) (D.2 k) := by
    refine ⟨(fun k => if k = 0 then c0 else c1, fun k => if k = 0 then iS0 else iS1), ?_⟩
    intro k q hq
    match k, hq with
    | 0, hq => cases hq; exact hKn0
    | 1, hq => cases hq; exact hKn1
    | k + 2, hq => simp [vwCl] at hq
  have hK0 : va_K D vwCl [] s := ⟨hKc, fun k q h => by simp at h⟩
  obtain ⟨cI, cZ, hK⟩ := k_known hK0 hts
  have hS : va_S (lA s) s.heap s.heap [] := va_S.rf
  have hP : va_P D vwCl [] s.heap := fun k q h => by simp at h
  have hD : va_D (lA s) [] := ⟨fun i j p q h => by simp at h, fun k q h => by simp at h⟩
  have hl := lv_entry ([.ref b]) (n := 4) (Nat.le_of_ble_eq_true rfl)
  rw [lg_entry_eq]
  generalize (lg_sl ([.ref b]) ++ List.replicate (4 - (lg_sl ([.ref b])).length) Slot.unset).toArray = ls at hl ⊢
  have hl : lv_has ls 4 [(0, .ref b)] := hl
  refine va_new (ci := 0) (fs := .int (iI 0) :: List.replicate 15 Value.null) (C := RX0) (T := TX0) (N := 16) hx hb hts in_X0 tyX0 tyX0_ok hown (hts _ q23) (hts _ q24) (hts _ q21) hK hP hD hS hA rfl (fun j hj => by rcases (show j = 0 ∨ j = 1 ∨ j = 2 ∨ j = 3 ∨ j = 4 ∨ j = 5 ∨ j = 6 ∨ j = 7 ∨ j = 8 ∨ j = 9 ∨ j = 10 ∨ j = 11 ∨ j = 12 ∨ j = 13 ∨ j = 14 ∨ j = 15 by omega) with rfl | rfl | rfl | rfl | rfl | rfl | rfl | rfl | rfl | rfl | rfl | rfl | rfl | rfl | rfl | rfl <;> rfl) (Nat.le_of_ble_eq_true rfl) (Nat.le_of_ble_eq_true rfl) dL_law_0 (fun h1 H hP hD hS => ?_)
  have hP : va_P D vwCl [(h1, .inr (dX.1, .int (iI 0) :: List.replicate 15 Value.null))] H := hP
  have hD : va_D (lA s) [(h1, .inr (dX.1, .int (iI 0) :: List.replicate 15 Value.null))] := hD
  refine lv_dup hx hb dL_law_3 rfl ?_
  have hF : ∀ q, va_A [(h1, .inr (dX.1, .int (iI 0) :: List.replicate 15 Value.null))] H.size q → lA s q := va_free hD hS hA [0] rfl
  refine va_callv (va_runI (As := []) (rest := [.ref h1]) ⟨hx, hb, hml, hown, hts⟩ (xm_init l D cI cZ h1 H.size) (cwI 0 hts (lw_meth q27) rfl rfl rfl (hts _ q21) (hts _ q25) (hts _ q26) rfl (by decide +kernel) ⟨Nat.le_of_ble_eq_true rfl, Nat.le_of_ble_eq_true rfl⟩) ⟨fun a U g mk q => by obtain ⟨q0, q1, qP, qK, qD⟩ := q; exact ⟨q0, q1, qP, va_K.moved (u := U) (U := U.calling g mk a) (Vm.Alike.refl U.vm) qK, qD⟩, fun U hU hW => ⟨rfl, by rw [hU], by rw [hU]; exact hP, va_K.moved hW.alike hK, hD.weaken (fun _ _ _ _ => trivial)⟩⟩ rfl rfl hl.1 rfl (lv_room (Nat.le_of_ble_eq_true rfl)) dL_law_4 ⟨Nat.le_of_ble_eq_true rfl, Nat.le_of_ble_eq_true rfl⟩) hS (fun q _ h => hF q h) hF (fun u t H1 locs ht hvm hw1 hB hz1 hk1 hS => ?_)
  obtain ⟨a1, X⟩ := u
  have hw1 : xi0 X := hw1
  obtain ⟨hP1, -, hD1⟩ := hB
  rw [ht] at hP1
  have hP1 : va_P D vwCl (oW dX cI cZ h1 a1 X) H1 := hP1
  have hD1 : va_D (lA s) (oW dX cI cZ h1 a1 X) := hD1.weaken (fun k q _ hq => hF q.1 hq)
  clear hP hD hF hk1 hz1 ht
  refine lv_astore_n (lv' := [(1, .ref h1), (0, .ref b)]) hx hb dL_law_7 rfl hl (by decide) rfl (fun ls hl => ?_)
  refine va_new (ci := 1) (fs := List.replicate 10 Value.null) (C := RX1) (T := TX1) (N := 10) hx hb hts in_X1 tyX1 tyX1_ok hown (hts _ q177) (hts _ q178) (hts _ q22) hK hP1 hD1 hS hA rfl (fun j hj => by rcases (show j = 0 ∨ j = 1 ∨ j = 2 ∨ j = 3 ∨ j = 4 ∨ j = 5 ∨ j = 6 ∨ j = 7 ∨ j = 8 ∨ j = 9 by omega) with rfl | rfl | rfl | rfl | rfl | rfl | rfl | rfl | rfl | rfl <;> rfl) (Nat.le_of_ble_eq_true rfl) (Nat.le_of_ble_eq_true rfl) dL_law_8 (fun h2 H hP hD hS => ?_)
  refine lv_dup hx hb dL_law_11 rfl ?_
  have hPx := pP_l hP
  have hPm : va_P D vwCl [(h2, .inr (dM.1, List.replicate 10 Value.null))] H := pP_r hP
  have hDm : va_D (lA s) [(h2, .inr (dM.1, List.replicate 10 Value.null))] := pD_r hD
  have hxm := pD_x hD
  have hF : ∀ q, va_A [(h2, .inr (dM.1, List.replicate 10 Value.null))] H.size q → lA s q := va_free hDm hS hA [0] rfl
  refine va_callv (va_runI (As := []) (rest := [.ref h2]) ⟨hx, hb, hml, hown, hts⟩ (mm_init l D cI cZ h2 H.size) (cwI 0 hts (lw_meth q181) rfl rfl rfl (hts _ q22) (hts _ q179) (hts _ q180) rfl (by decide +kernel) ⟨Nat.le_of_ble_eq_true rfl, Nat.le_of_ble_eq_true rfl⟩) ⟨fun a U g mk q => by obtain ⟨q0, q1, qP, qK, qD⟩ := q; exact ⟨q0, q1, qP, va_K.moved (u := U) (U := U.calling g mk a) (Vm.Alike.refl U.vm) qK, qD⟩, fun U hU hW => ⟨rfl, by rw [hU], by rw [hU]; exact hPm, va_K.moved hW.alike hK, hDm.weaken (fun _ _ _ _ => trivial)⟩⟩ rfl rfl hl.1 rfl (lv_room (Nat.le_of_ble_eq_true rfl)) dL_law_12 ⟨Nat.le_of_ble_eq_true rfl, Nat.le_of_ble_eq_true rfl⟩) hS (fun q _ h => hF q h) hF (fun u t H2 locs ht hvm hw2 hB hz1 hk1 hS => ?_)
  obtain ⟨a2, S⟩ := u
  have hw2 : mi0 S := hw2
  obtain ⟨hP2, -, hD2⟩ := hB
  rw [ht] at hP2
  have hP2 : va_P D vwCl (oW dM cI cZ h2 a2 S) H2 := hP2
  have hD2 : va_D (va_A [(h2, .inr (dM.1, List.replicate 10 Value.null))] H.size) (oW dM cI cZ h2 a2 S) := hD2
  have hno : ∀ (k : Nat) (q : Nat × va_E), (oW dX cI cZ h1 a1 X)[k]? = some q → ¬ va_A [(h2, .inr (dM.1, List.replicate 10 Value.null))] H.size q.1 := by
    rintro k q hq (⟨j, e', hj⟩ | hj)
    · exact hxm k j q (q.1, e') hq hj rfl
    · have := (hPx k q hq).lt
      omega
  have hWl : lM D cI cZ h1 a1 h2 a2 s X S H2 locs := ⟨hK, hPx.kept (fun k q hq => hk1 q.1 (hPx k q hq).lt (hno k q hq)), hP2, pD_l hD, hD2.weaken (fun k q _ hq => hF q.1 hq), fun i j p q hp hq e' => hno i p hp (by rw [e']; exact hD2.2 j q hq), hS⟩
  refine W.widen (k := 27) (n := 1198) (by decide) (by decide) ?_
  refine lv_astore_n (lv' := [(2, .ref h2), (1, .ref h1), (0, .ref b)]) hx hb dL_law_15 rfl hl (by decide) rfl (fun ls hl => ?_)
  refine o_iconst hx hb dL_law_16 ?_
  refine lv_istore_n (lv' := [(3, .int (iI 0)), (2, .ref h2), (1, .ref h1), (0, .ref b)]) hx hb dL_law_17 rfl hl (by decide) rfl (fun ls hl => ?_)
  exact law_loop hL C0 (L + 1) 0 X S H2 locs ls (by omega) (by omega) (by omega) (tt_init hw1 hw2) hWl (lv_sub hl [3, 2, 1, 0] rfl)
end
section
set_option maxHeartbeats 4000000 in
theorem lw_walk (l : Launch) (b : Addr) (xs : List Int32) : MetFree l x (headSpec (Jvm.Cond.code x code maxLocals ret :: tables_1) room_1) (lw_P b xs) (fun _ _ _ _ _ => True) lw_Q := by
  refine MetFree.of_bodyS (code := code) (maxLocals := maxLocals) (ret := ret) (by decide) ?_ ?_
  · intro args s m h hn
    obtain ⟨meth, c, h1, h2, h3, h4, h5, h6, -, -⟩ := Cond.code_spec hn (atoms_spec (ws := Jvm.Cond.code x code maxLocals ret :: tables_1) h _ List.mem_cons_self)
    exact ⟨meth, c, h1, h2, h3, h4, h5, h6⟩
  · intro p e s m args below meth c s₁ B hml0 hP _
    obtain ⟨rfl, hx, hbd, hgv⟩ := hP
    obtain ⟨scr, harrAt, hlist, hof, hsmall⟩ := hx
    obtain ⟨hcb, hkn, -, -⟩ := State.arrayAt?_spec harrAt
    have hown : s.vm.findClass R_law = some m.cls := findClass_of_methodNamed B.named
    have hts0 : ∀ c ∈ (Jvm.Cond.code x code maxLocals ret :: tables_1), c.before #[Value.ref b] s = true := atoms_spec (ws := Jvm.Cond.code x code maxLocals ret :: tables_1) B.pre
    have hts : ∀ w ∈ lw_tbl, w.before #[Value.ref b] s = true := k2_hts_sels lw_privs (fun w hw => hts0 w (List.mem_cons_of_mem _ hw)) lw_privs_ok
    have hml : c.maxLocals = 4 := B.maxLocals_eq (hts0 _ List.mem_cons_self)
    have X₀ : Stand p l e room_1 s m #[Value.ref b] below meth c s₁ [] 0 0 := Stand.of_body B
    have hh0 : s₁.heap = s.heap := by rw [B.state]; rfl
    have hsz : scr.slots.size = xs.length := by rw [← Array.length_toList, hlist, List.length_map]
    have hval : ∀ j : Nat, j < xs.length → scr.slots[j]? = some (.int (xs.getD j 0)) := fun j hj => by
      rw [← Array.getElem?_toList, hlist]
      simp [hj]
    have hbl : b < s.heap.size := (Array.getElem?_eq_some_iff.mp hcb).1
    have hX : va_X b xs.length (fun j => xs.getD j 0) s s.heap := ⟨scr, hcb, hof, hkn, hsz, hval⟩
    have K : W p l e room_1 s m #[Value.ref b] below meth c s₁.heap [] 0 0 (lw_Z below #[Value.ref b] s) (entryFrame m ([Value.ref b] : List Value).toArray 4) := by
      rw [hh0]
      exact whole_start l hbd ⟨B.exec, B.bytes, B.returns, hml, hown, hts, hX, hbl, B.notSynchronized, hgv⟩
    obtain ⟨t, a1, o, b1, b2, b3⟩ := K s₁ rfl X₀
    exact ⟨t, o, a1, b1, b2, b3⟩
theorem lw_pre_spec {args : Array Value} {s : State} (h : (Jvm.Cond.and given_1 narrow_1).before args s = true) (hr : rest_1_c.before args s = true) : ∃ (b : Addr) (xs : List Int32), lw_P b xs args s := by
  have hs := flat_of_before _ h
  have hq := flat_of_before _ hr
  have hc : (Cond.count 1).before args s = true := hs _ (by decide +kernel)
  have harr : (Cond.arrayOf (.arg 0) .int).before args s = true := hs _ (by decide +kernel)
  have hle : (Cond.le (.length (.arg 0)) (.int 256)).before args s = true := hs _ (by decide +kernel)
  have hlen : (Cond.isInt (.length (.arg 0))).before args s = true := hq _ (by decide +kernel)
  have hall : (Cond.all (.arg 0) (.isInt (.elem (.arg 0) (.index 0)))).before args s = true := hq _ (by decide +kernel)
  obtain ⟨b, xs, hb, hx⟩ := State.ints_of_pre rfl harr hlen hall
  have hsm : xs.length < 2 ^ 31 := hx.choose_spec.2.2.2
  have hev : (Term.length (.arg 0)).eval args s none [] s = some (.int xs.length.toInt32) := hx.length_eval hb
  have hv := Cond.le_ints hev (show (Term.int 256).eval args s none [] s = some (.int 256) from rfl)
  have hd : xs.length.toInt32 ≤ 256 := by
    simpa [Cond.before, Cond.holds, hv] using hle
  have hN : xs.length ≤ 256 := (Int32.ofNat_le_ofNat hsm (by decide)).mp (show Int32.ofNat xs.length ≤ Int32.ofNat 256 from hd)
  exact ⟨b, xs, Cond.one_arg hc (show args[0]? = some (.ref b) from hb), hx, hN, h⟩
theorem lw_comes (l : Launch) : Comes l x (Jvm.Cond.code x code maxLocals ret :: tables_1) room_1 (fun tb e args s => Calls_1 tb e args s ∧ rest_1 tb e args s ∧ Pre_1 tb e args s)
    (fun _ _ args s o t => lw_Q args s o t) := by
  intro p e ha hc hk s m args below hf hfit hheap happ hpre
  obtain ⟨b, xs, hP⟩ := lw_pre_spec hpre.2.2 hpre.2.1
  obtain ⟨k, o, h1, h2, h3, hQ⟩ := lw_walk l b xs p e ha hc hk s m args below hf ((Spec.applies_iff_loose hf).mp happ).1 hP trivial
  exact ⟨k, o, h1, h2, h3, hQ⟩
theorem lw_frame {s t : State} {o : Outcome} {args : Array Value} (h : Framed s o t [] 600000 7290000) :
    Framed s o t (fieldLocs frame_1_writes args s ++ arrayLocs frame_1_arrays args s ++ staticLocs frame_1_statics s) 600000 7290000 := h
theorem lw_limb (L : Cond) (hL : ∀ (args : Array Value) (s t : State), L.after args s (.returned (some (.int 1))) t = true) :
    ArmFor flags0 classFile x code maxLocals ret World_1 tables_1 room_1 Calls_1 rest_1 Pre_1
      (fun tb e a s o t => postC L tb e a s o t ∧ Framed s o t (fieldLocs frame_1_writes a s ++ arrayLocs frame_1_arrays a s ++ staticLocs frame_1_statics s) 600000 7290000) := by
  intro l _ _ _ p e ha hc hk s m args below hf hfit hheap happ hpre
  obtain ⟨k, o, h1, h2, h3, rfl, hF⟩ := lw_comes l p e ha hc hk s m args below hf hfit hheap happ hpre
  exact ⟨k, _, h1, h2, h3, hL args s _, lw_frame hF⟩
theorem i_vc : Claimed_1_1 ∧ Claimed_1_2 := ⟨lw_limb limb_1_1 (fun args s t => by simp [limb_1_1, Cond.after, Cond.holds, Cond.value]), lw_limb limb_1_2 (fun args s t => Cond.after_iff.mpr (by
  first | (rw [show limb_1_2 = Cond.eq .result (.int 1) from rfl, Cond.eq_ints (x := 1) (y := 1) rfl rfl]; simp; done) | (simp [limb_1_2, Cond.value, Term.eval]; done)))⟩
end
