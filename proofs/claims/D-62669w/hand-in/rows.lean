section
-- ===== PART A: goes FIRST, ahead of the names: the tables' words, and 'selects' of the private methods out of them =====
/-- a private method of a class that the tables say can be made, by its rows of tables_1 -/
def lw_okq (q : MethodName × Nat) : Prop := (q.1.cls ≠ "java/lang/invoke/MethodHandle" ∧ q.1.cls ≠ "java/lang/invoke/VarHandle") ∧ Cond.instantiable q.1.cls q.2 ∈ tables_1 ∧ Cond.privateMethod q.1 ∈ tables_1 ∧ Cond.instanceMethod q.1 ∈ tables_1
set_option maxRecDepth 100000
theorem lw_t1 {w : Cond} (h : w ∈ tables_1_1) : w ∈ tables_1 := List.mem_append_left _ h
theorem lw_t2 {w : Cond} (h : w ∈ tables_1_2) : w ∈ tables_1 := List.mem_append_right _ h
theorem lw_p0 : lw_okq (⟨"TransactionCaches", "rivalsOf", "(IIZ)I"⟩, 10) := ⟨⟨by decide +kernel, by decide +kernel⟩, lw_t1 (List.mem_of_getElem? (i := 4) rfl), lw_t1 (List.mem_of_getElem? (i := 59) rfl), lw_t1 (List.mem_of_getElem? (i := 60) rfl)⟩
theorem lw_p1 : lw_okq (⟨"TransactionCaches", "writtenSet", "(I)I"⟩, 10) := ⟨⟨by decide +kernel, by decide +kernel⟩, lw_t1 (List.mem_of_getElem? (i := 4) rfl), lw_t1 (List.mem_of_getElem? (i := 63) rfl), lw_t1 (List.mem_of_getElem? (i := 64) rfl)⟩
theorem lw_p2 : lw_okq (⟨"TransactionCaches", "readSet", "(I)I"⟩, 10) := ⟨⟨by decide +kernel, by decide +kernel⟩, lw_t1 (List.mem_of_getElem? (i := 4) rfl), lw_t1 (List.mem_of_getElem? (i := 67) rfl), lw_t1 (List.mem_of_getElem? (i := 68) rfl)⟩
theorem lw_p3 : lw_okq (⟨"TransactionCaches", "fetch", "(II)V"⟩, 10) := ⟨⟨by decide +kernel, by decide +kernel⟩, lw_t1 (List.mem_of_getElem? (i := 4) rfl), lw_t1 (List.mem_of_getElem? (i := 71) rfl), lw_t1 (List.mem_of_getElem? (i := 72) rfl)⟩
theorem lw_p4 : lw_okq (⟨"TransactionCaches", "holds", "(II)Z"⟩, 10) := ⟨⟨by decide +kernel, by decide +kernel⟩, lw_t1 (List.mem_of_getElem? (i := 4) rfl), lw_t1 (List.mem_of_getElem? (i := 75) rfl), lw_t1 (List.mem_of_getElem? (i := 76) rfl)⟩
theorem lw_p5 : lw_okq (⟨"TransactionCaches", "writeBack", "(I)V"⟩, 10) := ⟨⟨by decide +kernel, by decide +kernel⟩, lw_t1 (List.mem_of_getElem? (i := 4) rfl), lw_t1 (List.mem_of_getElem? (i := 82) rfl), lw_t1 (List.mem_of_getElem? (i := 83) rfl)⟩
theorem lw_p6 : lw_okq (⟨"TransactionCaches", "noteRead", "(II)V"⟩, 10) := ⟨⟨by decide +kernel, by decide +kernel⟩, lw_t1 (List.mem_of_getElem? (i := 4) rfl), lw_t1 (List.mem_of_getElem? (i := 86) rfl), lw_t1 (List.mem_of_getElem? (i := 87) rfl)⟩
theorem lw_p7 : lw_okq (⟨"TransactionCaches", "writerOf", "(I)I"⟩, 10) := ⟨⟨by decide +kernel, by decide +kernel⟩, lw_t1 (List.mem_of_getElem? (i := 4) rfl), lw_t1 (List.mem_of_getElem? (i := 94) rfl), lw_t1 (List.mem_of_getElem? (i := 95) rfl)⟩
theorem lw_p8 : lw_okq (⟨"TransactionCaches", "newest", "(I)I"⟩, 10) := ⟨⟨by decide +kernel, by decide +kernel⟩, lw_t1 (List.mem_of_getElem? (i := 4) rfl), lw_t1 (List.mem_of_getElem? (i := 98) rfl), lw_t1 (List.mem_of_getElem? (i := 99) rfl)⟩
theorem lw_p9 : lw_okq (⟨"TransactionCaches", "committedIn", "(I)I"⟩, 10) := ⟨⟨by decide +kernel, by decide +kernel⟩, lw_t1 (List.mem_of_getElem? (i := 4) rfl), lw_t1 (List.mem_of_getElem? (i := 102) rfl), lw_t1 (List.mem_of_getElem? (i := 103) rfl)⟩
theorem lw_p10 : lw_okq (⟨"TransactionCaches", "before", "(II)I"⟩, 10) := ⟨⟨by decide +kernel, by decide +kernel⟩, lw_t1 (List.mem_of_getElem? (i := 4) rfl), lw_t1 (List.mem_of_getElem? (i := 106) rfl), lw_t1 (List.mem_of_getElem? (i := 107) rfl)⟩
theorem lw_p11 : lw_okq (⟨"TransactionCaches", "change", "(III)V"⟩, 10) := ⟨⟨by decide +kernel, by decide +kernel⟩, lw_t1 (List.mem_of_getElem? (i := 4) rfl), lw_t1 (List.mem_of_getElem? (i := 114) rfl), lw_t1 (List.mem_of_getElem? (i := 115) rfl)⟩
theorem lw_p12 : lw_okq (⟨"TransactionCaches", "log", "(III)V"⟩, 10) := ⟨⟨by decide +kernel, by decide +kernel⟩, lw_t1 (List.mem_of_getElem? (i := 4) rfl), lw_t1 (List.mem_of_getElem? (i := 118) rfl), lw_t1 (List.mem_of_getElem? (i := 119) rfl)⟩
theorem lw_p13 : lw_okq (⟨"TransactionCaches", "store", "(III)V"⟩, 10) := ⟨⟨by decide +kernel, by decide +kernel⟩, lw_t1 (List.mem_of_getElem? (i := 4) rfl), lw_t1 (List.mem_of_getElem? (i := 122) rfl), lw_t1 (List.mem_of_getElem? (i := 123) rfl)⟩
theorem lw_p14 : lw_okq (⟨"TransactionCaches", "undo", "(I)V"⟩, 10) := ⟨⟨by decide +kernel, by decide +kernel⟩, lw_t1 (List.mem_of_getElem? (i := 4) rfl), lw_t1 (List.mem_of_getElem? (i := 138) rfl), lw_t1 (List.mem_of_getElem? (i := 139) rfl)⟩
theorem lw_p15 : lw_okq (⟨"TransactionCachesModel", "core", "(I)Z"⟩, 5) := ⟨⟨by decide +kernel, by decide +kernel⟩, lw_t1 (List.mem_of_getElem? (i := 170) rfl), lw_t1 (List.mem_of_getElem? (i := 196) rfl), lw_t1 (List.mem_of_getElem? (i := 197) rfl)⟩
def lw_privs_1 : List (MethodName × Nat) := [(⟨"TransactionCaches", "rivalsOf", "(IIZ)I"⟩, 10), (⟨"TransactionCaches", "writtenSet", "(I)I"⟩, 10), (⟨"TransactionCaches", "readSet", "(I)I"⟩, 10), (⟨"TransactionCaches", "fetch", "(II)V"⟩, 10), (⟨"TransactionCaches", "holds", "(II)Z"⟩, 10), (⟨"TransactionCaches", "writeBack", "(I)V"⟩, 10), (⟨"TransactionCaches", "noteRead", "(II)V"⟩, 10), (⟨"TransactionCaches", "writerOf", "(I)I"⟩, 10), (⟨"TransactionCaches", "newest", "(I)I"⟩, 10), (⟨"TransactionCaches", "committedIn", "(I)I"⟩, 10), (⟨"TransactionCaches", "before", "(II)I"⟩, 10), (⟨"TransactionCaches", "change", "(III)V"⟩, 10), (⟨"TransactionCaches", "log", "(III)V"⟩, 10), (⟨"TransactionCaches", "store", "(III)V"⟩, 10), (⟨"TransactionCaches", "undo", "(I)V"⟩, 10), (⟨"TransactionCachesModel", "core", "(I)Z"⟩, 5)]
theorem lw_r1 : ∀ q ∈ lw_privs_1, lw_okq q := List.forall_mem_cons.mpr ⟨lw_p0, List.forall_mem_cons.mpr ⟨lw_p1, List.forall_mem_cons.mpr ⟨lw_p2, List.forall_mem_cons.mpr ⟨lw_p3, List.forall_mem_cons.mpr ⟨lw_p4, List.forall_mem_cons.mpr ⟨lw_p5, List.forall_mem_cons.mpr ⟨lw_p6, List.forall_mem_cons.mpr ⟨lw_p7, List.forall_mem_cons.mpr ⟨lw_p8, List.forall_mem_cons.mpr ⟨lw_p9, List.forall_mem_cons.mpr ⟨lw_p10, List.forall_mem_cons.mpr ⟨lw_p11, List.forall_mem_cons.mpr ⟨lw_p12, List.forall_mem_cons.mpr ⟨lw_p13, List.forall_mem_cons.mpr ⟨lw_p14, List.forall_mem_cons.mpr ⟨lw_p15, fun _ h => absurd h List.not_mem_nil⟩⟩⟩⟩⟩⟩⟩⟩⟩⟩⟩⟩⟩⟩⟩⟩
theorem lw_p16 : lw_okq (⟨"TransactionCachesModel", "cell", "(I)Z"⟩, 5) := ⟨⟨by decide +kernel, by decide +kernel⟩, lw_t1 (List.mem_of_getElem? (i := 170) rfl), lw_t1 (List.mem_of_getElem? (i := 204) rfl), lw_t1 (List.mem_of_getElem? (i := 205) rfl)⟩
theorem lw_p17 : lw_okq (⟨"TransactionCachesModel", "others", "(IIZ)I"⟩, 5) := ⟨⟨by decide +kernel, by decide +kernel⟩, lw_t1 (List.mem_of_getElem? (i := 170) rfl), lw_t1 (List.mem_of_getElem? (i := 208) rfl), lw_t1 (List.mem_of_getElem? (i := 209) rfl)⟩
theorem lw_p18 : lw_okq (⟨"TransactionCachesModel", "writeSet", "(I)I"⟩, 5) := ⟨⟨by decide +kernel, by decide +kernel⟩, lw_t1 (List.mem_of_getElem? (i := 170) rfl), lw_t1 (List.mem_of_getElem? (i := 212) rfl), lw_t1 (List.mem_of_getElem? (i := 213) rfl)⟩
theorem lw_p19 : lw_okq (⟨"TransactionCachesModel", "readSet", "(I)I"⟩, 5) := ⟨⟨by decide +kernel, by decide +kernel⟩, lw_t1 (List.mem_of_getElem? (i := 170) rfl), lw_t1 (List.mem_of_getElem? (i := 216) rfl), lw_t1 (List.mem_of_getElem? (i := 217) rfl)⟩
theorem lw_p20 : lw_okq (⟨"TransactionCachesModel", "put", "(III)V"⟩, 5) := ⟨⟨by decide +kernel, by decide +kernel⟩, lw_t1 (List.mem_of_getElem? (i := 170) rfl), lw_t1 (List.mem_of_getElem? (i := 228) rfl), lw_t1 (List.mem_of_getElem? (i := 229) rfl)⟩
def lw_privs_2 : List (MethodName × Nat) := [(⟨"TransactionCachesModel", "cell", "(I)Z"⟩, 5), (⟨"TransactionCachesModel", "others", "(IIZ)I"⟩, 5), (⟨"TransactionCachesModel", "writeSet", "(I)I"⟩, 5), (⟨"TransactionCachesModel", "readSet", "(I)I"⟩, 5), (⟨"TransactionCachesModel", "put", "(III)V"⟩, 5)]
theorem lw_r2 : ∀ q ∈ lw_privs_2, lw_okq q := List.forall_mem_cons.mpr ⟨lw_p16, List.forall_mem_cons.mpr ⟨lw_p17, List.forall_mem_cons.mpr ⟨lw_p18, List.forall_mem_cons.mpr ⟨lw_p19, List.forall_mem_cons.mpr ⟨lw_p20, fun _ h => absurd h List.not_mem_nil⟩⟩⟩⟩⟩
def lw_privs : List (MethodName × Nat) := lw_privs_1 ++ (lw_privs_2)
def lw_tbl : List Cond := k2_sels lw_privs ++ tables_1
theorem lw_privs_ok : ∀ q ∈ lw_privs, lw_okq q := by
  show ∀ q ∈ lw_privs_1 ++ (lw_privs_2), lw_okq q
  exact List.forall_mem_append.mpr ⟨lw_r1, lw_r2⟩
-- ===== ONE list of words for every method: the tables' words that hold all through a run =====
def lw_all : List Cond := lw_tbl.filter goodWord
/-- a word of the tables by its place: claim/WORDS.tsv -/
theorem lw_w {w : Cond} (i : Nat) (h : lw_tbl[i]? = some w) (g : goodWord w = true) : w ∈ lw_all := List.mem_filter.mpr ⟨List.mem_of_getElem? h, g⟩
theorem lw_all_tbl {w : Cond} (h : w ∈ lw_all) : w ∈ lw_tbl := (List.mem_filter.mp h).1
theorem lw_self : GoodIn lw_all lw_all := fun w h => ⟨h, good_of_word (List.mem_filter.mp h).2⟩
/-- a class's field words, by their places -/
theorem lw_in (ws : List Cond) (ps : List Nat) (hp : ws = ps.filterMap (fun i => lw_tbl[i]?)) (hg : ws.all goodWord = true) : ∀ w ∈ ws, w ∈ lw_all := by
  intro w h
  have h1 := List.all_eq_true.mp hg w h
  rw [hp] at h
  obtain ⟨i, -, hi⟩ := List.mem_filterMap.mp h
  exact lw_w i hi h1
/-- the words of a contract for the method y with code b, L locals, answer r -/
abbrev ws_ (y : MethodName) (b : ByteArray) (L : Nat) (r : Option FieldType) : List Cond := Cond.code y b L r :: lw_all
theorem lw_meth {y : MethodName} {b : ByteArray} {L : Nat} {r : Option FieldType} (h : Cond.code y b L r ∈ lw_all) : GoodIn lw_all (ws_ y b L r) := by
  intro w hw
  rcases List.mem_cons.mp hw with e | e
  · rw [e]
    exact lw_self _ h
  · exact lw_self _ e
theorem lw_app {a c : List Cond} (ha : ∀ w ∈ a, w ∈ lw_all) (hc : GoodIn lw_all c) : GoodIn lw_all (a ++ c) := by
  intro w hw
  rcases List.mem_append.mp hw with e | e
  · exact lw_self w (ha w e)
  · exact hc w e
/-- what a call through an object asks: cwV n hts (lw_V ..) -/
theorem lw_V {own : String} {idx : Nat} {C : String} {y : MethodName} {b : ByteArray} {L : Nat} {r : Option FieldType} (h1 : Cond.methodLink own idx y ∈ lw_all) (h2 : Cond.instanceMethod y ∈ lw_all) (h3 : Cond.selects C y y ∈ lw_all) (h4 : Cond.initialized C ∈ lw_all) (h5 : Cond.code y b L r ∈ lw_all) : GoodIn lw_all (wsV own idx C y (ws_ y b L r)) := by
  refine lw_app ?_ (lw_meth h5)
  intro w hw
  simp only [List.mem_cons, List.not_mem_nil, or_false] at hw
  rcases hw with e | e | e | e
  · rw [e]; exact h1
  · rw [e]; exact h2
  · rw [e]; exact h3
  · rw [e]; exact h4
/-- what a static call asks: va_cwS n hts (lw_S ..) -/
theorem lw_S {own : String} {idx : Nat} {y : MethodName} {b : ByteArray} {L : Nat} {r : Option FieldType} (h1 : Cond.methodLink own idx y ∈ lw_all) (h2 : Cond.static y ∈ lw_all) (h3 : Cond.initialized y.cls ∈ lw_all) (h4 : Cond.code y b L r ∈ lw_all) : GoodIn lw_all (va_wsS own idx y (ws_ y b L r)) := by
  refine lw_app ?_ (lw_meth h4)
  intro w hw
  simp only [List.mem_cons, List.not_mem_nil, or_false] at hw
  rcases hw with e | e | e
  · rw [e]; exact h1
  · rw [e]; exact h2
  · rw [e]; exact h3
/-- the words of a contract for a method WITH HANDLERS (hh: its table) -/
abbrev wsW_ (y : MethodName) (b : ByteArray) (L : Nat) (r : Option FieldType) (hh : List (Nat × Nat × Nat × Nat)) : List Cond := Cond.codeWith y b L r hh :: lw_all
theorem lw_methW {y : MethodName} {b : ByteArray} {L : Nat} {r : Option FieldType} {hh : List (Nat × Nat × Nat × Nat)} (h : Cond.codeWith y b L r hh ∈ lw_all) : GoodIn lw_all (wsW_ y b L r hh) := by
  intro w hw
  rcases List.mem_cons.mp hw with e | e
  · rw [e]
    exact lw_self _ h
  · exact lw_self _ e
/-- any list of words by their places (lw_in), good -/
theorem lw_good {ws : List Cond} (h : ∀ w ∈ ws, w ∈ lw_all) : GoodIn lw_all ws := fun w hw => lw_self w (h w hw)
/-- what a call of a method with handlers asks: vx_cwVW n hts (lw_VW ..), vx_cwSW n hts (lw_SW ..) -/
theorem lw_VW {own : String} {idx : Nat} {C : String} {y : MethodName} {b : ByteArray} {L : Nat} {r : Option FieldType} {hh : List (Nat × Nat × Nat × Nat)} (h1 : Cond.methodLink own idx y ∈ lw_all) (h2 : Cond.instanceMethod y ∈ lw_all) (h3 : Cond.selects C y y ∈ lw_all) (h4 : Cond.initialized C ∈ lw_all) (h5 : Cond.codeWith y b L r hh ∈ lw_all) : GoodIn lw_all (wsV own idx C y (wsW_ y b L r hh)) := by
  refine lw_app ?_ (lw_methW h5)
  intro w hw
  simp only [List.mem_cons, List.not_mem_nil, or_false] at hw
  rcases hw with e | e | e | e
  · rw [e]; exact h1
  · rw [e]; exact h2
  · rw [e]; exact h3
  · rw [e]; exact h4
theorem lw_SW {own : String} {idx : Nat} {y : MethodName} {b : ByteArray} {L : Nat} {r : Option FieldType} {hh : List (Nat × Nat × Nat × Nat)} (h1 : Cond.methodLink own idx y ∈ lw_all) (h2 : Cond.static y ∈ lw_all) (h3 : Cond.initialized y.cls ∈ lw_all) (h4 : Cond.codeWith y b L r hh ∈ lw_all) : GoodIn lw_all (va_wsS own idx y (wsW_ y b L r hh)) := by
  refine lw_app ?_ (lw_methW h4)
  intro w hw
  simp only [List.mem_cons, List.not_mem_nil, or_false] at hw
  rcases hw with e | e | e
  · rw [e]; exact h1
  · rw [e]; exact h2
  · rw [e]; exact h3
/-- a word by its place in its run of the tables -/
theorem lw_at {r : List Cond} (hr : ∀ w ∈ r, w ∈ lw_tbl) {w : Cond} (i : Nat) (h : r[i]? = some w) : w ∈ lw_tbl := hr w (List.mem_of_getElem? h)
theorem lw_g {w : Cond} (h : w ∈ lw_tbl) (g : goodWord w = true) : w ∈ lw_all := List.mem_filter.mpr ⟨h, g⟩
theorem lw_ms : ∀ w ∈ k2_sels lw_privs, w ∈ lw_tbl := fun w h => show w ∈ k2_sels lw_privs ++ tables_1 from List.mem_append_left _ h
theorem lw_m1 : ∀ w ∈ tables_1_1, w ∈ lw_tbl := fun w h => show w ∈ k2_sels lw_privs ++ tables_1 from List.mem_append_right (k2_sels lw_privs) (show w ∈ tables_1 from List.mem_append_left _ h)
theorem lw_m2 : ∀ w ∈ tables_1_2, w ∈ lw_tbl := fun w h => show w ∈ k2_sels lw_privs ++ tables_1 from List.mem_append_right (k2_sels lw_privs) (show w ∈ tables_1 from List.mem_append_right _ h)
theorem qs0 : (Cond.selects "TransactionCaches" ⟨"TransactionCaches", "rivalsOf", "(IIZ)I"⟩ ⟨"TransactionCaches", "rivalsOf", "(IIZ)I"⟩) ∈ lw_all := lw_g (lw_at lw_ms 0 rfl) rfl
theorem qs1 : (Cond.selects "TransactionCaches" ⟨"TransactionCaches", "writtenSet", "(I)I"⟩ ⟨"TransactionCaches", "writtenSet", "(I)I"⟩) ∈ lw_all := lw_g (lw_at lw_ms 1 rfl) rfl
theorem qs2 : (Cond.selects "TransactionCaches" ⟨"TransactionCaches", "readSet", "(I)I"⟩ ⟨"TransactionCaches", "readSet", "(I)I"⟩) ∈ lw_all := lw_g (lw_at lw_ms 2 rfl) rfl
theorem qs3 : (Cond.selects "TransactionCaches" ⟨"TransactionCaches", "fetch", "(II)V"⟩ ⟨"TransactionCaches", "fetch", "(II)V"⟩) ∈ lw_all := lw_g (lw_at lw_ms 3 rfl) rfl
theorem qs4 : (Cond.selects "TransactionCaches" ⟨"TransactionCaches", "holds", "(II)Z"⟩ ⟨"TransactionCaches", "holds", "(II)Z"⟩) ∈ lw_all := lw_g (lw_at lw_ms 4 rfl) rfl
theorem qs5 : (Cond.selects "TransactionCaches" ⟨"TransactionCaches", "writeBack", "(I)V"⟩ ⟨"TransactionCaches", "writeBack", "(I)V"⟩) ∈ lw_all := lw_g (lw_at lw_ms 5 rfl) rfl
theorem qs6 : (Cond.selects "TransactionCaches" ⟨"TransactionCaches", "noteRead", "(II)V"⟩ ⟨"TransactionCaches", "noteRead", "(II)V"⟩) ∈ lw_all := lw_g (lw_at lw_ms 6 rfl) rfl
theorem qs7 : (Cond.selects "TransactionCaches" ⟨"TransactionCaches", "writerOf", "(I)I"⟩ ⟨"TransactionCaches", "writerOf", "(I)I"⟩) ∈ lw_all := lw_g (lw_at lw_ms 7 rfl) rfl
theorem qs8 : (Cond.selects "TransactionCaches" ⟨"TransactionCaches", "newest", "(I)I"⟩ ⟨"TransactionCaches", "newest", "(I)I"⟩) ∈ lw_all := lw_g (lw_at lw_ms 8 rfl) rfl
theorem qs9 : (Cond.selects "TransactionCaches" ⟨"TransactionCaches", "committedIn", "(I)I"⟩ ⟨"TransactionCaches", "committedIn", "(I)I"⟩) ∈ lw_all := lw_g (lw_at lw_ms 9 rfl) rfl
theorem qs10 : (Cond.selects "TransactionCaches" ⟨"TransactionCaches", "before", "(II)I"⟩ ⟨"TransactionCaches", "before", "(II)I"⟩) ∈ lw_all := lw_g (lw_at lw_ms 10 rfl) rfl
theorem qs11 : (Cond.selects "TransactionCaches" ⟨"TransactionCaches", "change", "(III)V"⟩ ⟨"TransactionCaches", "change", "(III)V"⟩) ∈ lw_all := lw_g (lw_at lw_ms 11 rfl) rfl
theorem qs12 : (Cond.selects "TransactionCaches" ⟨"TransactionCaches", "log", "(III)V"⟩ ⟨"TransactionCaches", "log", "(III)V"⟩) ∈ lw_all := lw_g (lw_at lw_ms 12 rfl) rfl
theorem qs13 : (Cond.selects "TransactionCaches" ⟨"TransactionCaches", "store", "(III)V"⟩ ⟨"TransactionCaches", "store", "(III)V"⟩) ∈ lw_all := lw_g (lw_at lw_ms 13 rfl) rfl
theorem qs14 : (Cond.selects "TransactionCaches" ⟨"TransactionCaches", "undo", "(I)V"⟩ ⟨"TransactionCaches", "undo", "(I)V"⟩) ∈ lw_all := lw_g (lw_at lw_ms 14 rfl) rfl
theorem qs15 : (Cond.selects "TransactionCachesModel" ⟨"TransactionCachesModel", "core", "(I)Z"⟩ ⟨"TransactionCachesModel", "core", "(I)Z"⟩) ∈ lw_all := lw_g (lw_at lw_ms 15 rfl) rfl
theorem qs16 : (Cond.selects "TransactionCachesModel" ⟨"TransactionCachesModel", "cell", "(I)Z"⟩ ⟨"TransactionCachesModel", "cell", "(I)Z"⟩) ∈ lw_all := lw_g (lw_at lw_ms 16 rfl) rfl
theorem qs17 : (Cond.selects "TransactionCachesModel" ⟨"TransactionCachesModel", "others", "(IIZ)I"⟩ ⟨"TransactionCachesModel", "others", "(IIZ)I"⟩) ∈ lw_all := lw_g (lw_at lw_ms 17 rfl) rfl
theorem qs18 : (Cond.selects "TransactionCachesModel" ⟨"TransactionCachesModel", "writeSet", "(I)I"⟩ ⟨"TransactionCachesModel", "writeSet", "(I)I"⟩) ∈ lw_all := lw_g (lw_at lw_ms 18 rfl) rfl
theorem qs19 : (Cond.selects "TransactionCachesModel" ⟨"TransactionCachesModel", "readSet", "(I)I"⟩ ⟨"TransactionCachesModel", "readSet", "(I)I"⟩) ∈ lw_all := lw_g (lw_at lw_ms 19 rfl) rfl
theorem qs20 : (Cond.selects "TransactionCachesModel" ⟨"TransactionCachesModel", "put", "(III)V"⟩ ⟨"TransactionCachesModel", "put", "(III)V"⟩) ∈ lw_all := lw_g (lw_at lw_ms 20 rfl) rfl
end
section
/-! java/lang/Object -/
set_option maxRecDepth 100000
def RJ0 : String := "java/lang/Object"
abbrev cJ0_init : ByteArray := object_method_1_code
def yJ0_init : MethodName := ⟨RJ0, "<init>", "()V"⟩
theorem dJ0_init_0 : decode cJ0_init 0 = .ok (.return_, 1) := by decide +kernel
theorem q30 : (Jvm.Cond.instanceMethod ({ cls := "java/lang/Object", name := "<init>", desc := "()V" } : Jvm.MethodName)) ∈ lw_all := lw_g (lw_at lw_m1 9 rfl) rfl
theorem q31 : (Jvm.Cond.code ({ cls := "java/lang/Object", name := "<init>", desc := "()V" } : Jvm.MethodName) object_method_1_code (1 : Nat) (Option.none : Option Jvm.ClassFile.FieldType)) ∈ lw_all := lw_g (lw_at lw_m1 10 rfl) rfl
/-! TransactionCaches -/
set_option maxRecDepth 100000
def RX0 : String := "TransactionCaches"
def TX0 : u_T := fun k => match k with
  | 0 => ("TransactionCaches", "memory", "[I", true)
  | 1 => ("TransactionCaches", "tags", "[B", true)
  | 2 => ("TransactionCaches", "states", "[B", true)
  | 3 => ("TransactionCaches", "data", "[I", true)
  | 4 => ("TransactionCaches", "levels", "[B", true)
  | 5 => ("TransactionCaches", "readAt", "[I", true)
  | 6 => ("TransactionCaches", "writtenAt", "[I", true)
  | 7 => ("TransactionCaches", "logSize", "[B", true)
  | 8 => ("TransactionCaches", "logCell", "[B", true)
  | _ => ("TransactionCaches", "logOld", "[I", true)
def tyX0 : Nat → FieldType := fun k => match k with
  | 0 => .array .int
  | 1 => .array .byte
  | 2 => .array .byte
  | 3 => .array .int
  | 4 => .array .byte
  | 5 => .array .int
  | 6 => .array .int
  | 7 => .array .byte
  | 8 => .array .byte
  | _ => .array .int
abbrev wsX00 : List Cond := u_ws RX0 TX0 10
theorem nmX0 : ∀ a, a < 10 → ∀ b, b < 10 → a ≠ b → (TX0 a).2.1 ≠ (TX0 b).2.1 := by decide +kernel
theorem tyX0_ok : ∀ k, k < 10 → parseFieldDescriptor (TX0 k).2.2.1 = some (tyX0 k) := by decide +kernel
abbrev cX0_init : ByteArray := prog_1_method_1_code
def yX0_init : MethodName := ⟨RX0, "<init>", "()V"⟩
theorem dX0_init_0 : decode cX0_init 0 = .ok (.aload_n 0, 1) := by decide +kernel
theorem dX0_init_1 : decode cX0_init 1 = .ok (.invokespecial 1, 3) := by decide +kernel
theorem dX0_init_4 : decode cX0_init 4 = .ok (.aload_n 0, 1) := by decide +kernel
theorem dX0_init_5 : decode cX0_init 5 = .ok (.bipush 16, 2) := by decide +kernel
theorem dX0_init_7 : decode cX0_init 7 = .ok (.newarray .int, 2) := by decide +kernel
theorem dX0_init_9 : decode cX0_init 9 = .ok (.putfield 7, 3) := by decide +kernel
theorem dX0_init_12 : decode cX0_init 12 = .ok (.aload_n 0, 1) := by decide +kernel
theorem dX0_init_13 : decode cX0_init 13 = .ok (.bipush 16, 2) := by decide +kernel
theorem dX0_init_15 : decode cX0_init 15 = .ok (.newarray .byte, 2) := by decide +kernel
theorem dX0_init_17 : decode cX0_init 17 = .ok (.putfield 13, 3) := by decide +kernel
theorem dX0_init_20 : decode cX0_init 20 = .ok (.aload_n 0, 1) := by decide +kernel
theorem dX0_init_21 : decode cX0_init 21 = .ok (.bipush 16, 2) := by decide +kernel
theorem dX0_init_23 : decode cX0_init 23 = .ok (.newarray .byte, 2) := by decide +kernel
theorem dX0_init_25 : decode cX0_init 25 = .ok (.putfield 17, 3) := by decide +kernel
theorem dX0_init_28 : decode cX0_init 28 = .ok (.aload_n 0, 1) := by decide +kernel
theorem dX0_init_29 : decode cX0_init 29 = .ok (.bipush 16, 2) := by decide +kernel
theorem dX0_init_31 : decode cX0_init 31 = .ok (.newarray .int, 2) := by decide +kernel
theorem dX0_init_33 : decode cX0_init 33 = .ok (.putfield 20, 3) := by decide +kernel
theorem dX0_init_36 : decode cX0_init 36 = .ok (.aload_n 0, 1) := by decide +kernel
theorem dX0_init_37 : decode cX0_init 37 = .ok (.iconst 4, 1) := by decide +kernel
theorem dX0_init_38 : decode cX0_init 38 = .ok (.newarray .byte, 2) := by decide +kernel
theorem dX0_init_40 : decode cX0_init 40 = .ok (.putfield 23, 3) := by decide +kernel
theorem dX0_init_43 : decode cX0_init 43 = .ok (.aload_n 0, 1) := by decide +kernel
theorem dX0_init_44 : decode cX0_init 44 = .ok (.bipush 12, 2) := by decide +kernel
theorem dX0_init_46 : decode cX0_init 46 = .ok (.newarray .int, 2) := by decide +kernel
theorem dX0_init_48 : decode cX0_init 48 = .ok (.putfield 26, 3) := by decide +kernel
theorem dX0_init_51 : decode cX0_init 51 = .ok (.aload_n 0, 1) := by decide +kernel
theorem dX0_init_52 : decode cX0_init 52 = .ok (.bipush 12, 2) := by decide +kernel
theorem dX0_init_54 : decode cX0_init 54 = .ok (.newarray .int, 2) := by decide +kernel
theorem dX0_init_56 : decode cX0_init 56 = .ok (.putfield 29, 3) := by decide +kernel
theorem dX0_init_59 : decode cX0_init 59 = .ok (.aload_n 0, 1) := by decide +kernel
theorem dX0_init_60 : decode cX0_init 60 = .ok (.bipush 12, 2) := by decide +kernel
theorem dX0_init_62 : decode cX0_init 62 = .ok (.newarray .byte, 2) := by decide +kernel
theorem dX0_init_64 : decode cX0_init 64 = .ok (.putfield 32, 3) := by decide +kernel
theorem dX0_init_67 : decode cX0_init 67 = .ok (.aload_n 0, 1) := by decide +kernel
theorem dX0_init_68 : decode cX0_init 68 = .ok (.sipush 192, 3) := by decide +kernel
theorem dX0_init_71 : decode cX0_init 71 = .ok (.newarray .byte, 2) := by decide +kernel
theorem dX0_init_73 : decode cX0_init 73 = .ok (.putfield 35, 3) := by decide +kernel
theorem dX0_init_76 : decode cX0_init 76 = .ok (.aload_n 0, 1) := by decide +kernel
theorem dX0_init_77 : decode cX0_init 77 = .ok (.sipush 192, 3) := by decide +kernel
theorem dX0_init_80 : decode cX0_init 80 = .ok (.newarray .int, 2) := by decide +kernel
theorem dX0_init_82 : decode cX0_init 82 = .ok (.putfield 38, 3) := by decide +kernel
theorem dX0_init_85 : decode cX0_init 85 = .ok (.return_, 1) := by decide +kernel
abbrev cX0_begin : ByteArray := prog_1_method_19_code
def yX0_begin : MethodName := ⟨RX0, "begin", "(I)I"⟩
theorem dX0_begin_0 : decode cX0_begin 0 = .ok (.iload_n 1, 1) := by decide +kernel
theorem dX0_begin_1 : decode cX0_begin 1 = .ok (.invokestatic 80, 3) := by decide +kernel
theorem dX0_begin_4 : decode cX0_begin 4 = .ok (.ifCond .eq 13, 3) := by decide +kernel
theorem dX0_begin_7 : decode cX0_begin 7 = .ok (.aload_n 0, 1) := by decide +kernel
theorem dX0_begin_8 : decode cX0_begin 8 = .ok (.getfield 23, 3) := by decide +kernel
theorem dX0_begin_11 : decode cX0_begin 11 = .ok (.iload_n 1, 1) := by decide +kernel
theorem dX0_begin_12 : decode cX0_begin 12 = .ok (.baload, 1) := by decide +kernel
theorem dX0_begin_13 : decode cX0_begin 13 = .ok (.iconst 3, 1) := by decide +kernel
theorem dX0_begin_14 : decode cX0_begin 14 = .ok (.if_icmp .lt 5, 3) := by decide +kernel
theorem dX0_begin_17 : decode cX0_begin 17 = .ok (.iconst (-1), 1) := by decide +kernel
theorem dX0_begin_18 : decode cX0_begin 18 = .ok (.ireturn, 1) := by decide +kernel
theorem dX0_begin_19 : decode cX0_begin 19 = .ok (.iload_n 1, 1) := by decide +kernel
theorem dX0_begin_20 : decode cX0_begin 20 = .ok (.iconst 3, 1) := by decide +kernel
theorem dX0_begin_21 : decode cX0_begin 21 = .ok (.imul, 1) := by decide +kernel
theorem dX0_begin_22 : decode cX0_begin 22 = .ok (.aload_n 0, 1) := by decide +kernel
theorem dX0_begin_23 : decode cX0_begin 23 = .ok (.getfield 23, 3) := by decide +kernel
theorem dX0_begin_26 : decode cX0_begin 26 = .ok (.iload_n 1, 1) := by decide +kernel
theorem dX0_begin_27 : decode cX0_begin 27 = .ok (.baload, 1) := by decide +kernel
theorem dX0_begin_28 : decode cX0_begin 28 = .ok (.iadd, 1) := by decide +kernel
theorem dX0_begin_29 : decode cX0_begin 29 = .ok (.istore_n 2, 1) := by decide +kernel
theorem dX0_begin_30 : decode cX0_begin 30 = .ok (.aload_n 0, 1) := by decide +kernel
theorem dX0_begin_31 : decode cX0_begin 31 = .ok (.getfield 26, 3) := by decide +kernel
theorem dX0_begin_34 : decode cX0_begin 34 = .ok (.iload_n 2, 1) := by decide +kernel
theorem dX0_begin_35 : decode cX0_begin 35 = .ok (.iconst 0, 1) := by decide +kernel
theorem dX0_begin_36 : decode cX0_begin 36 = .ok (.iastore, 1) := by decide +kernel
theorem dX0_begin_37 : decode cX0_begin 37 = .ok (.aload_n 0, 1) := by decide +kernel
theorem dX0_begin_38 : decode cX0_begin 38 = .ok (.getfield 29, 3) := by decide +kernel
theorem dX0_begin_41 : decode cX0_begin 41 = .ok (.iload_n 2, 1) := by decide +kernel
theorem dX0_begin_42 : decode cX0_begin 42 = .ok (.iconst 0, 1) := by decide +kernel
theorem dX0_begin_43 : decode cX0_begin 43 = .ok (.iastore, 1) := by decide +kernel
theorem dX0_begin_44 : decode cX0_begin 44 = .ok (.aload_n 0, 1) := by decide +kernel
theorem dX0_begin_45 : decode cX0_begin 45 = .ok (.getfield 32, 3) := by decide +kernel
theorem dX0_begin_48 : decode cX0_begin 48 = .ok (.iload_n 2, 1) := by decide +kernel
theorem dX0_begin_49 : decode cX0_begin 49 = .ok (.iconst 0, 1) := by decide +kernel
theorem dX0_begin_50 : decode cX0_begin 50 = .ok (.bastore, 1) := by decide +kernel
theorem dX0_begin_51 : decode cX0_begin 51 = .ok (.aload_n 0, 1) := by decide +kernel
theorem dX0_begin_52 : decode cX0_begin 52 = .ok (.getfield 23, 3) := by decide +kernel
theorem dX0_begin_55 : decode cX0_begin 55 = .ok (.iload_n 1, 1) := by decide +kernel
theorem dX0_begin_56 : decode cX0_begin 56 = .ok (.dup2, 1) := by decide +kernel
theorem dX0_begin_57 : decode cX0_begin 57 = .ok (.baload, 1) := by decide +kernel
theorem dX0_begin_58 : decode cX0_begin 58 = .ok (.iconst 1, 1) := by decide +kernel
theorem dX0_begin_59 : decode cX0_begin 59 = .ok (.iadd, 1) := by decide +kernel
theorem dX0_begin_60 : decode cX0_begin 60 = .ok (.i2b, 1) := by decide +kernel
theorem dX0_begin_61 : decode cX0_begin 61 = .ok (.bastore, 1) := by decide +kernel
theorem dX0_begin_62 : decode cX0_begin 62 = .ok (.aload_n 0, 1) := by decide +kernel
theorem dX0_begin_63 : decode cX0_begin 63 = .ok (.getfield 23, 3) := by decide +kernel
theorem dX0_begin_66 : decode cX0_begin 66 = .ok (.iload_n 1, 1) := by decide +kernel
theorem dX0_begin_67 : decode cX0_begin 67 = .ok (.baload, 1) := by decide +kernel
theorem dX0_begin_68 : decode cX0_begin 68 = .ok (.ireturn, 1) := by decide +kernel
abbrev cX0_isCore : ByteArray := prog_1_method_2_code
def yX0_isCore : MethodName := ⟨RX0, "isCore", "(I)Z"⟩
theorem dX0_isCore_0 : decode cX0_isCore 0 = .ok (.iload_n 0, 1) := by decide +kernel
theorem dX0_isCore_1 : decode cX0_isCore 1 = .ok (.ifCond .lt 12, 3) := by decide +kernel
theorem dX0_isCore_4 : decode cX0_isCore 4 = .ok (.iload_n 0, 1) := by decide +kernel
theorem dX0_isCore_5 : decode cX0_isCore 5 = .ok (.iconst 4, 1) := by decide +kernel
theorem dX0_isCore_6 : decode cX0_isCore 6 = .ok (.if_icmp .ge 7, 3) := by decide +kernel
theorem dX0_isCore_9 : decode cX0_isCore 9 = .ok (.iconst 1, 1) := by decide +kernel
theorem dX0_isCore_10 : decode cX0_isCore 10 = .ok (.goto 4, 3) := by decide +kernel
theorem dX0_isCore_13 : decode cX0_isCore 13 = .ok (.iconst 0, 1) := by decide +kernel
theorem dX0_isCore_14 : decode cX0_isCore 14 = .ok (.ireturn, 1) := by decide +kernel
abbrev cX0_read : ByteArray := prog_1_method_20_code
def yX0_read : MethodName := ⟨RX0, "read", "(II)I"⟩
theorem dX0_read_0 : decode cX0_read 0 = .ok (.iload_n 1, 1) := by decide +kernel
theorem dX0_read_1 : decode cX0_read 1 = .ok (.invokestatic 80, 3) := by decide +kernel
theorem dX0_read_4 : decode cX0_read 4 = .ok (.ifCond .eq 10, 3) := by decide +kernel
theorem dX0_read_7 : decode cX0_read 7 = .ok (.iload_n 2, 1) := by decide +kernel
theorem dX0_read_8 : decode cX0_read 8 = .ok (.invokestatic 84, 3) := by decide +kernel
theorem dX0_read_11 : decode cX0_read 11 = .ok (.ifCond .ne 5, 3) := by decide +kernel
theorem dX0_read_14 : decode cX0_read 14 = .ok (.iconst (-1), 1) := by decide +kernel
theorem dX0_read_15 : decode cX0_read 15 = .ok (.ireturn, 1) := by decide +kernel
theorem dX0_read_16 : decode cX0_read 16 = .ok (.aload_n 0, 1) := by decide +kernel
theorem dX0_read_17 : decode cX0_read 17 = .ok (.iload_n 1, 1) := by decide +kernel
theorem dX0_read_18 : decode cX0_read 18 = .ok (.iload_n 2, 1) := by decide +kernel
theorem dX0_read_19 : decode cX0_read 19 = .ok (.iconst 0, 1) := by decide +kernel
theorem dX0_read_20 : decode cX0_read 20 = .ok (.invokevirtual 87, 3) := by decide +kernel
theorem dX0_read_23 : decode cX0_read 23 = .ok (.ifCond .eq 6, 3) := by decide +kernel
theorem dX0_read_26 : decode cX0_read 26 = .ok (.bipush (-2), 2) := by decide +kernel
theorem dX0_read_28 : decode cX0_read 28 = .ok (.ireturn, 1) := by decide +kernel
theorem dX0_read_29 : decode cX0_read 29 = .ok (.aload_n 0, 1) := by decide +kernel
theorem dX0_read_30 : decode cX0_read 30 = .ok (.iload_n 1, 1) := by decide +kernel
theorem dX0_read_31 : decode cX0_read 31 = .ok (.iload_n 2, 1) := by decide +kernel
theorem dX0_read_32 : decode cX0_read 32 = .ok (.invokevirtual 53, 3) := by decide +kernel
theorem dX0_read_35 : decode cX0_read 35 = .ok (.aload_n 0, 1) := by decide +kernel
theorem dX0_read_36 : decode cX0_read 36 = .ok (.iload_n 1, 1) := by decide +kernel
theorem dX0_read_37 : decode cX0_read 37 = .ok (.iload_n 2, 1) := by decide +kernel
theorem dX0_read_38 : decode cX0_read 38 = .ok (.invokevirtual 91, 3) := by decide +kernel
theorem dX0_read_41 : decode cX0_read 41 = .ok (.iconst 0, 1) := by decide +kernel
theorem dX0_read_42 : decode cX0_read 42 = .ok (.ireturn, 1) := by decide +kernel
abbrev cX0_isCell : ByteArray := prog_1_method_3_code
def yX0_isCell : MethodName := ⟨RX0, "isCell", "(I)Z"⟩
theorem dX0_isCell_0 : decode cX0_isCell 0 = .ok (.iload_n 0, 1) := by decide +kernel
theorem dX0_isCell_1 : decode cX0_isCell 1 = .ok (.ifCond .lt 13, 3) := by decide +kernel
theorem dX0_isCell_4 : decode cX0_isCell 4 = .ok (.iload_n 0, 1) := by decide +kernel
theorem dX0_isCell_5 : decode cX0_isCell 5 = .ok (.bipush 16, 2) := by decide +kernel
theorem dX0_isCell_7 : decode cX0_isCell 7 = .ok (.if_icmp .ge 7, 3) := by decide +kernel
theorem dX0_isCell_10 : decode cX0_isCell 10 = .ok (.iconst 1, 1) := by decide +kernel
theorem dX0_isCell_11 : decode cX0_isCell 11 = .ok (.goto 4, 3) := by decide +kernel
theorem dX0_isCell_14 : decode cX0_isCell 14 = .ok (.iconst 0, 1) := by decide +kernel
theorem dX0_isCell_15 : decode cX0_isCell 15 = .ok (.ireturn, 1) := by decide +kernel
abbrev cX0_rivalsOf : ByteArray := prog_1_method_12_code
def yX0_rivalsOf : MethodName := ⟨RX0, "rivalsOf", "(IIZ)I"⟩
theorem dX0_rivalsOf_0 : decode cX0_rivalsOf 0 = .ok (.iconst 0, 1) := by decide +kernel
theorem dX0_rivalsOf_1 : decode cX0_rivalsOf 1 = .ok (.istore 4, 2) := by decide +kernel
theorem dX0_rivalsOf_3 : decode cX0_rivalsOf 3 = .ok (.iconst 0, 1) := by decide +kernel
theorem dX0_rivalsOf_4 : decode cX0_rivalsOf 4 = .ok (.istore 5, 2) := by decide +kernel
theorem dX0_rivalsOf_6 : decode cX0_rivalsOf 6 = .ok (.iload 5, 2) := by decide +kernel
theorem dX0_rivalsOf_8 : decode cX0_rivalsOf 8 = .ok (.iconst 4, 1) := by decide +kernel
theorem dX0_rivalsOf_9 : decode cX0_rivalsOf 9 = .ok (.if_icmp .ge 60, 3) := by decide +kernel
theorem dX0_rivalsOf_12 : decode cX0_rivalsOf 12 = .ok (.aload_n 0, 1) := by decide +kernel
theorem dX0_rivalsOf_13 : decode cX0_rivalsOf 13 = .ok (.iload 5, 2) := by decide +kernel
theorem dX0_rivalsOf_15 : decode cX0_rivalsOf 15 = .ok (.invokevirtual 57, 3) := by decide +kernel
theorem dX0_rivalsOf_18 : decode cX0_rivalsOf 18 = .ok (.istore 6, 2) := by decide +kernel
theorem dX0_rivalsOf_20 : decode cX0_rivalsOf 20 = .ok (.iload_n 3, 1) := by decide +kernel
theorem dX0_rivalsOf_21 : decode cX0_rivalsOf 21 = .ok (.ifCond .eq 14, 3) := by decide +kernel
theorem dX0_rivalsOf_24 : decode cX0_rivalsOf 24 = .ok (.iload 6, 2) := by decide +kernel
theorem dX0_rivalsOf_26 : decode cX0_rivalsOf 26 = .ok (.aload_n 0, 1) := by decide +kernel
theorem dX0_rivalsOf_27 : decode cX0_rivalsOf 27 = .ok (.iload 5, 2) := by decide +kernel
theorem dX0_rivalsOf_29 : decode cX0_rivalsOf 29 = .ok (.invokevirtual 61, 3) := by decide +kernel
theorem dX0_rivalsOf_32 : decode cX0_rivalsOf 32 = .ok (.ior, 1) := by decide +kernel
theorem dX0_rivalsOf_33 : decode cX0_rivalsOf 33 = .ok (.istore 6, 2) := by decide +kernel
theorem dX0_rivalsOf_35 : decode cX0_rivalsOf 35 = .ok (.iload 4, 2) := by decide +kernel
theorem dX0_rivalsOf_37 : decode cX0_rivalsOf 37 = .ok (.iload 5, 2) := by decide +kernel
theorem dX0_rivalsOf_39 : decode cX0_rivalsOf 39 = .ok (.iload_n 1, 1) := by decide +kernel
theorem dX0_rivalsOf_40 : decode cX0_rivalsOf 40 = .ok (.if_icmp .eq 19, 3) := by decide +kernel
theorem dX0_rivalsOf_43 : decode cX0_rivalsOf 43 = .ok (.iload 6, 2) := by decide +kernel
theorem dX0_rivalsOf_45 : decode cX0_rivalsOf 45 = .ok (.iload_n 2, 1) := by decide +kernel
theorem dX0_rivalsOf_46 : decode cX0_rivalsOf 46 = .ok (.ishr, 1) := by decide +kernel
theorem dX0_rivalsOf_47 : decode cX0_rivalsOf 47 = .ok (.iconst 1, 1) := by decide +kernel
theorem dX0_rivalsOf_48 : decode cX0_rivalsOf 48 = .ok (.iand, 1) := by decide +kernel
theorem dX0_rivalsOf_49 : decode cX0_rivalsOf 49 = .ok (.ifCond .eq 10, 3) := by decide +kernel
theorem dX0_rivalsOf_52 : decode cX0_rivalsOf 52 = .ok (.iconst 1, 1) := by decide +kernel
theorem dX0_rivalsOf_53 : decode cX0_rivalsOf 53 = .ok (.iload 5, 2) := by decide +kernel
theorem dX0_rivalsOf_55 : decode cX0_rivalsOf 55 = .ok (.ishl, 1) := by decide +kernel
theorem dX0_rivalsOf_56 : decode cX0_rivalsOf 56 = .ok (.goto 4, 3) := by decide +kernel
theorem dX0_rivalsOf_59 : decode cX0_rivalsOf 59 = .ok (.iconst 0, 1) := by decide +kernel
theorem dX0_rivalsOf_60 : decode cX0_rivalsOf 60 = .ok (.ior, 1) := by decide +kernel
theorem dX0_rivalsOf_61 : decode cX0_rivalsOf 61 = .ok (.istore 4, 2) := by decide +kernel
theorem dX0_rivalsOf_63 : decode cX0_rivalsOf 63 = .ok (.iinc 5 1, 3) := by decide +kernel
theorem dX0_rivalsOf_66 : decode cX0_rivalsOf 66 = .ok (.goto (-60), 3) := by decide +kernel
theorem dX0_rivalsOf_69 : decode cX0_rivalsOf 69 = .ok (.iload 4, 2) := by decide +kernel
theorem dX0_rivalsOf_71 : decode cX0_rivalsOf 71 = .ok (.ireturn, 1) := by decide +kernel
abbrev cX0_writtenSet : ByteArray := prog_1_method_11_code
def yX0_writtenSet : MethodName := ⟨RX0, "writtenSet", "(I)I"⟩
theorem dX0_writtenSet_0 : decode cX0_writtenSet 0 = .ok (.iconst 0, 1) := by decide +kernel
theorem dX0_writtenSet_1 : decode cX0_writtenSet 1 = .ok (.istore_n 2, 1) := by decide +kernel
theorem dX0_writtenSet_2 : decode cX0_writtenSet 2 = .ok (.iconst 0, 1) := by decide +kernel
theorem dX0_writtenSet_3 : decode cX0_writtenSet 3 = .ok (.istore_n 3, 1) := by decide +kernel
theorem dX0_writtenSet_4 : decode cX0_writtenSet 4 = .ok (.iload_n 3, 1) := by decide +kernel
theorem dX0_writtenSet_5 : decode cX0_writtenSet 5 = .ok (.aload_n 0, 1) := by decide +kernel
theorem dX0_writtenSet_6 : decode cX0_writtenSet 6 = .ok (.getfield 23, 3) := by decide +kernel
theorem dX0_writtenSet_9 : decode cX0_writtenSet 9 = .ok (.iload_n 1, 1) := by decide +kernel
theorem dX0_writtenSet_10 : decode cX0_writtenSet 10 = .ok (.baload, 1) := by decide +kernel
theorem dX0_writtenSet_11 : decode cX0_writtenSet 11 = .ok (.if_icmp .ge 22, 3) := by decide +kernel
theorem dX0_writtenSet_14 : decode cX0_writtenSet 14 = .ok (.iload_n 2, 1) := by decide +kernel
theorem dX0_writtenSet_15 : decode cX0_writtenSet 15 = .ok (.aload_n 0, 1) := by decide +kernel
theorem dX0_writtenSet_16 : decode cX0_writtenSet 16 = .ok (.getfield 29, 3) := by decide +kernel
theorem dX0_writtenSet_19 : decode cX0_writtenSet 19 = .ok (.iload_n 1, 1) := by decide +kernel
theorem dX0_writtenSet_20 : decode cX0_writtenSet 20 = .ok (.iconst 3, 1) := by decide +kernel
theorem dX0_writtenSet_21 : decode cX0_writtenSet 21 = .ok (.imul, 1) := by decide +kernel
theorem dX0_writtenSet_22 : decode cX0_writtenSet 22 = .ok (.iload_n 3, 1) := by decide +kernel
theorem dX0_writtenSet_23 : decode cX0_writtenSet 23 = .ok (.iadd, 1) := by decide +kernel
theorem dX0_writtenSet_24 : decode cX0_writtenSet 24 = .ok (.iaload, 1) := by decide +kernel
theorem dX0_writtenSet_25 : decode cX0_writtenSet 25 = .ok (.ior, 1) := by decide +kernel
theorem dX0_writtenSet_26 : decode cX0_writtenSet 26 = .ok (.istore_n 2, 1) := by decide +kernel
theorem dX0_writtenSet_27 : decode cX0_writtenSet 27 = .ok (.iinc 3 1, 3) := by decide +kernel
theorem dX0_writtenSet_30 : decode cX0_writtenSet 30 = .ok (.goto (-26), 3) := by decide +kernel
theorem dX0_writtenSet_33 : decode cX0_writtenSet 33 = .ok (.iload_n 2, 1) := by decide +kernel
theorem dX0_writtenSet_34 : decode cX0_writtenSet 34 = .ok (.ireturn, 1) := by decide +kernel
abbrev cX0_readSet : ByteArray := prog_1_method_10_code
def yX0_readSet : MethodName := ⟨RX0, "readSet", "(I)I"⟩
theorem dX0_readSet_0 : decode cX0_readSet 0 = .ok (.iconst 0, 1) := by decide +kernel
theorem dX0_readSet_1 : decode cX0_readSet 1 = .ok (.istore_n 2, 1) := by decide +kernel
theorem dX0_readSet_2 : decode cX0_readSet 2 = .ok (.iconst 0, 1) := by decide +kernel
theorem dX0_readSet_3 : decode cX0_readSet 3 = .ok (.istore_n 3, 1) := by decide +kernel
theorem dX0_readSet_4 : decode cX0_readSet 4 = .ok (.iload_n 3, 1) := by decide +kernel
theorem dX0_readSet_5 : decode cX0_readSet 5 = .ok (.aload_n 0, 1) := by decide +kernel
theorem dX0_readSet_6 : decode cX0_readSet 6 = .ok (.getfield 23, 3) := by decide +kernel
theorem dX0_readSet_9 : decode cX0_readSet 9 = .ok (.iload_n 1, 1) := by decide +kernel
theorem dX0_readSet_10 : decode cX0_readSet 10 = .ok (.baload, 1) := by decide +kernel
theorem dX0_readSet_11 : decode cX0_readSet 11 = .ok (.if_icmp .ge 22, 3) := by decide +kernel
theorem dX0_readSet_14 : decode cX0_readSet 14 = .ok (.iload_n 2, 1) := by decide +kernel
theorem dX0_readSet_15 : decode cX0_readSet 15 = .ok (.aload_n 0, 1) := by decide +kernel
theorem dX0_readSet_16 : decode cX0_readSet 16 = .ok (.getfield 26, 3) := by decide +kernel
theorem dX0_readSet_19 : decode cX0_readSet 19 = .ok (.iload_n 1, 1) := by decide +kernel
theorem dX0_readSet_20 : decode cX0_readSet 20 = .ok (.iconst 3, 1) := by decide +kernel
theorem dX0_readSet_21 : decode cX0_readSet 21 = .ok (.imul, 1) := by decide +kernel
theorem dX0_readSet_22 : decode cX0_readSet 22 = .ok (.iload_n 3, 1) := by decide +kernel
theorem dX0_readSet_23 : decode cX0_readSet 23 = .ok (.iadd, 1) := by decide +kernel
theorem dX0_readSet_24 : decode cX0_readSet 24 = .ok (.iaload, 1) := by decide +kernel
theorem dX0_readSet_25 : decode cX0_readSet 25 = .ok (.ior, 1) := by decide +kernel
theorem dX0_readSet_26 : decode cX0_readSet 26 = .ok (.istore_n 2, 1) := by decide +kernel
theorem dX0_readSet_27 : decode cX0_readSet 27 = .ok (.iinc 3 1, 3) := by decide +kernel
theorem dX0_readSet_30 : decode cX0_readSet 30 = .ok (.goto (-26), 3) := by decide +kernel
theorem dX0_readSet_33 : decode cX0_readSet 33 = .ok (.iload_n 2, 1) := by decide +kernel
theorem dX0_readSet_34 : decode cX0_readSet 34 = .ok (.ireturn, 1) := by decide +kernel
abbrev cX0_fetch : ByteArray := prog_1_method_8_code
def yX0_fetch : MethodName := ⟨RX0, "fetch", "(II)V"⟩
theorem dX0_fetch_0 : decode cX0_fetch 0 = .ok (.aload_n 0, 1) := by decide +kernel
theorem dX0_fetch_1 : decode cX0_fetch 1 = .ok (.iload_n 1, 1) := by decide +kernel
theorem dX0_fetch_2 : decode cX0_fetch 2 = .ok (.iload_n 2, 1) := by decide +kernel
theorem dX0_fetch_3 : decode cX0_fetch 3 = .ok (.invokevirtual 45, 3) := by decide +kernel
theorem dX0_fetch_6 : decode cX0_fetch 6 = .ok (.ifCond .eq 4, 3) := by decide +kernel
theorem dX0_fetch_9 : decode cX0_fetch 9 = .ok (.return_, 1) := by decide +kernel
theorem dX0_fetch_10 : decode cX0_fetch 10 = .ok (.iload_n 1, 1) := by decide +kernel
theorem dX0_fetch_11 : decode cX0_fetch 11 = .ok (.iload_n 2, 1) := by decide +kernel
theorem dX0_fetch_12 : decode cX0_fetch 12 = .ok (.invokestatic 41, 3) := by decide +kernel
theorem dX0_fetch_15 : decode cX0_fetch 15 = .ok (.istore_n 3, 1) := by decide +kernel
theorem dX0_fetch_16 : decode cX0_fetch 16 = .ok (.aload_n 0, 1) := by decide +kernel
theorem dX0_fetch_17 : decode cX0_fetch 17 = .ok (.iload_n 3, 1) := by decide +kernel
theorem dX0_fetch_18 : decode cX0_fetch 18 = .ok (.invokevirtual 49, 3) := by decide +kernel
theorem dX0_fetch_21 : decode cX0_fetch 21 = .ok (.iconst 0, 1) := by decide +kernel
theorem dX0_fetch_22 : decode cX0_fetch 22 = .ok (.istore 4, 2) := by decide +kernel
theorem dX0_fetch_24 : decode cX0_fetch 24 = .ok (.iconst 0, 1) := by decide +kernel
theorem dX0_fetch_25 : decode cX0_fetch 25 = .ok (.istore 5, 2) := by decide +kernel
theorem dX0_fetch_27 : decode cX0_fetch 27 = .ok (.iload 5, 2) := by decide +kernel
theorem dX0_fetch_29 : decode cX0_fetch 29 = .ok (.iconst 4, 1) := by decide +kernel
theorem dX0_fetch_30 : decode cX0_fetch 30 = .ok (.if_icmp .ge 50, 3) := by decide +kernel
theorem dX0_fetch_33 : decode cX0_fetch 33 = .ok (.iload 5, 2) := by decide +kernel
theorem dX0_fetch_35 : decode cX0_fetch 35 = .ok (.iload_n 1, 1) := by decide +kernel
theorem dX0_fetch_36 : decode cX0_fetch 36 = .ok (.if_icmp .eq 38, 3) := by decide +kernel
theorem dX0_fetch_39 : decode cX0_fetch 39 = .ok (.aload_n 0, 1) := by decide +kernel
theorem dX0_fetch_40 : decode cX0_fetch 40 = .ok (.iload 5, 2) := by decide +kernel
theorem dX0_fetch_42 : decode cX0_fetch 42 = .ok (.iload_n 2, 1) := by decide +kernel
theorem dX0_fetch_43 : decode cX0_fetch 43 = .ok (.invokevirtual 45, 3) := by decide +kernel
theorem dX0_fetch_46 : decode cX0_fetch 46 = .ok (.ifCond .eq 28, 3) := by decide +kernel
theorem dX0_fetch_49 : decode cX0_fetch 49 = .ok (.iload 5, 2) := by decide +kernel
theorem dX0_fetch_51 : decode cX0_fetch 51 = .ok (.iload_n 2, 1) := by decide +kernel
theorem dX0_fetch_52 : decode cX0_fetch 52 = .ok (.invokestatic 41, 3) := by decide +kernel
theorem dX0_fetch_55 : decode cX0_fetch 55 = .ok (.istore 6, 2) := by decide +kernel
theorem dX0_fetch_57 : decode cX0_fetch 57 = .ok (.aload_n 0, 1) := by decide +kernel
theorem dX0_fetch_58 : decode cX0_fetch 58 = .ok (.iload 6, 2) := by decide +kernel
theorem dX0_fetch_60 : decode cX0_fetch 60 = .ok (.invokevirtual 49, 3) := by decide +kernel
theorem dX0_fetch_63 : decode cX0_fetch 63 = .ok (.aload_n 0, 1) := by decide +kernel
theorem dX0_fetch_64 : decode cX0_fetch 64 = .ok (.getfield 17, 3) := by decide +kernel
theorem dX0_fetch_67 : decode cX0_fetch 67 = .ok (.iload 6, 2) := by decide +kernel
theorem dX0_fetch_69 : decode cX0_fetch 69 = .ok (.iconst 1, 1) := by decide +kernel
theorem dX0_fetch_70 : decode cX0_fetch 70 = .ok (.bastore, 1) := by decide +kernel
theorem dX0_fetch_71 : decode cX0_fetch 71 = .ok (.iconst 1, 1) := by decide +kernel
theorem dX0_fetch_72 : decode cX0_fetch 72 = .ok (.istore 4, 2) := by decide +kernel
theorem dX0_fetch_74 : decode cX0_fetch 74 = .ok (.iinc 5 1, 3) := by decide +kernel
theorem dX0_fetch_77 : decode cX0_fetch 77 = .ok (.goto (-50), 3) := by decide +kernel
theorem dX0_fetch_80 : decode cX0_fetch 80 = .ok (.aload_n 0, 1) := by decide +kernel
theorem dX0_fetch_81 : decode cX0_fetch 81 = .ok (.getfield 13, 3) := by decide +kernel
theorem dX0_fetch_84 : decode cX0_fetch 84 = .ok (.iload_n 3, 1) := by decide +kernel
theorem dX0_fetch_85 : decode cX0_fetch 85 = .ok (.iload_n 2, 1) := by decide +kernel
theorem dX0_fetch_86 : decode cX0_fetch 86 = .ok (.i2b, 1) := by decide +kernel
theorem dX0_fetch_87 : decode cX0_fetch 87 = .ok (.bastore, 1) := by decide +kernel
theorem dX0_fetch_88 : decode cX0_fetch 88 = .ok (.aload_n 0, 1) := by decide +kernel
theorem dX0_fetch_89 : decode cX0_fetch 89 = .ok (.getfield 20, 3) := by decide +kernel
theorem dX0_fetch_92 : decode cX0_fetch 92 = .ok (.iload_n 3, 1) := by decide +kernel
theorem dX0_fetch_93 : decode cX0_fetch 93 = .ok (.aload_n 0, 1) := by decide +kernel
theorem dX0_fetch_94 : decode cX0_fetch 94 = .ok (.getfield 7, 3) := by decide +kernel
theorem dX0_fetch_97 : decode cX0_fetch 97 = .ok (.iload_n 2, 1) := by decide +kernel
theorem dX0_fetch_98 : decode cX0_fetch 98 = .ok (.iaload, 1) := by decide +kernel
theorem dX0_fetch_99 : decode cX0_fetch 99 = .ok (.iastore, 1) := by decide +kernel
theorem dX0_fetch_100 : decode cX0_fetch 100 = .ok (.aload_n 0, 1) := by decide +kernel
theorem dX0_fetch_101 : decode cX0_fetch 101 = .ok (.getfield 17, 3) := by decide +kernel
theorem dX0_fetch_104 : decode cX0_fetch 104 = .ok (.iload_n 3, 1) := by decide +kernel
theorem dX0_fetch_105 : decode cX0_fetch 105 = .ok (.iload 4, 2) := by decide +kernel
theorem dX0_fetch_107 : decode cX0_fetch 107 = .ok (.ifCond .eq 7, 3) := by decide +kernel
theorem dX0_fetch_110 : decode cX0_fetch 110 = .ok (.iconst 1, 1) := by decide +kernel
theorem dX0_fetch_111 : decode cX0_fetch 111 = .ok (.goto 4, 3) := by decide +kernel
theorem dX0_fetch_114 : decode cX0_fetch 114 = .ok (.iconst 2, 1) := by decide +kernel
theorem dX0_fetch_115 : decode cX0_fetch 115 = .ok (.i2b, 1) := by decide +kernel
theorem dX0_fetch_116 : decode cX0_fetch 116 = .ok (.bastore, 1) := by decide +kernel
theorem dX0_fetch_117 : decode cX0_fetch 117 = .ok (.return_, 1) := by decide +kernel
abbrev cX0_holds : ByteArray := prog_1_method_5_code
def yX0_holds : MethodName := ⟨RX0, "holds", "(II)Z"⟩
theorem dX0_holds_0 : decode cX0_holds 0 = .ok (.iload_n 1, 1) := by decide +kernel
theorem dX0_holds_1 : decode cX0_holds 1 = .ok (.iload_n 2, 1) := by decide +kernel
theorem dX0_holds_2 : decode cX0_holds 2 = .ok (.invokestatic 41, 3) := by decide +kernel
theorem dX0_holds_5 : decode cX0_holds 5 = .ok (.istore_n 3, 1) := by decide +kernel
theorem dX0_holds_6 : decode cX0_holds 6 = .ok (.aload_n 0, 1) := by decide +kernel
theorem dX0_holds_7 : decode cX0_holds 7 = .ok (.getfield 17, 3) := by decide +kernel
theorem dX0_holds_10 : decode cX0_holds 10 = .ok (.iload_n 3, 1) := by decide +kernel
theorem dX0_holds_11 : decode cX0_holds 11 = .ok (.baload, 1) := by decide +kernel
theorem dX0_holds_12 : decode cX0_holds 12 = .ok (.ifCond .eq 17, 3) := by decide +kernel
theorem dX0_holds_15 : decode cX0_holds 15 = .ok (.aload_n 0, 1) := by decide +kernel
theorem dX0_holds_16 : decode cX0_holds 16 = .ok (.getfield 13, 3) := by decide +kernel
theorem dX0_holds_19 : decode cX0_holds 19 = .ok (.iload_n 3, 1) := by decide +kernel
theorem dX0_holds_20 : decode cX0_holds 20 = .ok (.baload, 1) := by decide +kernel
theorem dX0_holds_21 : decode cX0_holds 21 = .ok (.iload_n 2, 1) := by decide +kernel
theorem dX0_holds_22 : decode cX0_holds 22 = .ok (.if_icmp .ne 7, 3) := by decide +kernel
theorem dX0_holds_25 : decode cX0_holds 25 = .ok (.iconst 1, 1) := by decide +kernel
theorem dX0_holds_26 : decode cX0_holds 26 = .ok (.goto 4, 3) := by decide +kernel
theorem dX0_holds_29 : decode cX0_holds 29 = .ok (.iconst 0, 1) := by decide +kernel
theorem dX0_holds_30 : decode cX0_holds 30 = .ok (.ireturn, 1) := by decide +kernel
abbrev cX0_lineOf : ByteArray := prog_1_method_4_code
def yX0_lineOf : MethodName := ⟨RX0, "lineOf", "(II)I"⟩
theorem dX0_lineOf_0 : decode cX0_lineOf 0 = .ok (.iload_n 0, 1) := by decide +kernel
theorem dX0_lineOf_1 : decode cX0_lineOf 1 = .ok (.iconst 4, 1) := by decide +kernel
theorem dX0_lineOf_2 : decode cX0_lineOf 2 = .ok (.imul, 1) := by decide +kernel
theorem dX0_lineOf_3 : decode cX0_lineOf 3 = .ok (.iload_n 1, 1) := by decide +kernel
theorem dX0_lineOf_4 : decode cX0_lineOf 4 = .ok (.iconst 3, 1) := by decide +kernel
theorem dX0_lineOf_5 : decode cX0_lineOf 5 = .ok (.iand, 1) := by decide +kernel
theorem dX0_lineOf_6 : decode cX0_lineOf 6 = .ok (.iadd, 1) := by decide +kernel
theorem dX0_lineOf_7 : decode cX0_lineOf 7 = .ok (.ireturn, 1) := by decide +kernel
end
section
set_option maxRecDepth 100000
abbrev cX0_writeBack : ByteArray := prog_1_method_7_code
def yX0_writeBack : MethodName := ⟨RX0, "writeBack", "(I)V"⟩
theorem dX0_writeBack_0 : decode cX0_writeBack 0 = .ok (.aload_n 0, 1) := by decide +kernel
theorem dX0_writeBack_1 : decode cX0_writeBack 1 = .ok (.getfield 17, 3) := by decide +kernel
theorem dX0_writeBack_4 : decode cX0_writeBack 4 = .ok (.iload_n 1, 1) := by decide +kernel
theorem dX0_writeBack_5 : decode cX0_writeBack 5 = .ok (.baload, 1) := by decide +kernel
theorem dX0_writeBack_6 : decode cX0_writeBack 6 = .ok (.iconst 3, 1) := by decide +kernel
theorem dX0_writeBack_7 : decode cX0_writeBack 7 = .ok (.if_icmp .ne 20, 3) := by decide +kernel
theorem dX0_writeBack_10 : decode cX0_writeBack 10 = .ok (.aload_n 0, 1) := by decide +kernel
theorem dX0_writeBack_11 : decode cX0_writeBack 11 = .ok (.getfield 7, 3) := by decide +kernel
theorem dX0_writeBack_14 : decode cX0_writeBack 14 = .ok (.aload_n 0, 1) := by decide +kernel
theorem dX0_writeBack_15 : decode cX0_writeBack 15 = .ok (.getfield 13, 3) := by decide +kernel
theorem dX0_writeBack_18 : decode cX0_writeBack 18 = .ok (.iload_n 1, 1) := by decide +kernel
theorem dX0_writeBack_19 : decode cX0_writeBack 19 = .ok (.baload, 1) := by decide +kernel
theorem dX0_writeBack_20 : decode cX0_writeBack 20 = .ok (.aload_n 0, 1) := by decide +kernel
theorem dX0_writeBack_21 : decode cX0_writeBack 21 = .ok (.getfield 20, 3) := by decide +kernel
theorem dX0_writeBack_24 : decode cX0_writeBack 24 = .ok (.iload_n 1, 1) := by decide +kernel
theorem dX0_writeBack_25 : decode cX0_writeBack 25 = .ok (.iaload, 1) := by decide +kernel
theorem dX0_writeBack_26 : decode cX0_writeBack 26 = .ok (.iastore, 1) := by decide +kernel
theorem dX0_writeBack_27 : decode cX0_writeBack 27 = .ok (.return_, 1) := by decide +kernel
abbrev cX0_noteRead : ByteArray := prog_1_method_16_code
def yX0_noteRead : MethodName := ⟨RX0, "noteRead", "(II)V"⟩
theorem dX0_noteRead_0 : decode cX0_noteRead 0 = .ok (.aload_n 0, 1) := by decide +kernel
theorem dX0_noteRead_1 : decode cX0_noteRead 1 = .ok (.getfield 23, 3) := by decide +kernel
theorem dX0_noteRead_4 : decode cX0_noteRead 4 = .ok (.iload_n 1, 1) := by decide +kernel
theorem dX0_noteRead_5 : decode cX0_noteRead 5 = .ok (.baload, 1) := by decide +kernel
theorem dX0_noteRead_6 : decode cX0_noteRead 6 = .ok (.ifCond .le 26, 3) := by decide +kernel
theorem dX0_noteRead_9 : decode cX0_noteRead 9 = .ok (.aload_n 0, 1) := by decide +kernel
theorem dX0_noteRead_10 : decode cX0_noteRead 10 = .ok (.getfield 26, 3) := by decide +kernel
theorem dX0_noteRead_13 : decode cX0_noteRead 13 = .ok (.iload_n 1, 1) := by decide +kernel
theorem dX0_noteRead_14 : decode cX0_noteRead 14 = .ok (.iconst 3, 1) := by decide +kernel
theorem dX0_noteRead_15 : decode cX0_noteRead 15 = .ok (.imul, 1) := by decide +kernel
theorem dX0_noteRead_16 : decode cX0_noteRead 16 = .ok (.aload_n 0, 1) := by decide +kernel
theorem dX0_noteRead_17 : decode cX0_noteRead 17 = .ok (.getfield 23, 3) := by decide +kernel
theorem dX0_noteRead_20 : decode cX0_noteRead 20 = .ok (.iload_n 1, 1) := by decide +kernel
theorem dX0_noteRead_21 : decode cX0_noteRead 21 = .ok (.baload, 1) := by decide +kernel
theorem dX0_noteRead_22 : decode cX0_noteRead 22 = .ok (.iadd, 1) := by decide +kernel
theorem dX0_noteRead_23 : decode cX0_noteRead 23 = .ok (.iconst 1, 1) := by decide +kernel
theorem dX0_noteRead_24 : decode cX0_noteRead 24 = .ok (.isub, 1) := by decide +kernel
theorem dX0_noteRead_25 : decode cX0_noteRead 25 = .ok (.dup2, 1) := by decide +kernel
theorem dX0_noteRead_26 : decode cX0_noteRead 26 = .ok (.iaload, 1) := by decide +kernel
theorem dX0_noteRead_27 : decode cX0_noteRead 27 = .ok (.iconst 1, 1) := by decide +kernel
theorem dX0_noteRead_28 : decode cX0_noteRead 28 = .ok (.iload_n 2, 1) := by decide +kernel
theorem dX0_noteRead_29 : decode cX0_noteRead 29 = .ok (.ishl, 1) := by decide +kernel
theorem dX0_noteRead_30 : decode cX0_noteRead 30 = .ok (.ior, 1) := by decide +kernel
theorem dX0_noteRead_31 : decode cX0_noteRead 31 = .ok (.iastore, 1) := by decide +kernel
theorem dX0_noteRead_32 : decode cX0_noteRead 32 = .ok (.return_, 1) := by decide +kernel
abbrev cX0_sees : ByteArray := prog_1_method_22_code
def yX0_sees : MethodName := ⟨RX0, "sees", "(II)I"⟩
theorem dX0_sees_0 : decode cX0_sees 0 = .ok (.iload_n 1, 1) := by decide +kernel
theorem dX0_sees_1 : decode cX0_sees 1 = .ok (.invokestatic 80, 3) := by decide +kernel
theorem dX0_sees_4 : decode cX0_sees 4 = .ok (.ifCond .eq 10, 3) := by decide +kernel
theorem dX0_sees_7 : decode cX0_sees 7 = .ok (.iload_n 2, 1) := by decide +kernel
theorem dX0_sees_8 : decode cX0_sees 8 = .ok (.invokestatic 84, 3) := by decide +kernel
theorem dX0_sees_11 : decode cX0_sees 11 = .ok (.ifCond .ne 5, 3) := by decide +kernel
theorem dX0_sees_14 : decode cX0_sees 14 = .ok (.iconst 0, 1) := by decide +kernel
theorem dX0_sees_15 : decode cX0_sees 15 = .ok (.ireturn, 1) := by decide +kernel
theorem dX0_sees_16 : decode cX0_sees 16 = .ok (.aload_n 0, 1) := by decide +kernel
theorem dX0_sees_17 : decode cX0_sees 17 = .ok (.iload_n 2, 1) := by decide +kernel
theorem dX0_sees_18 : decode cX0_sees 18 = .ok (.invokevirtual 67, 3) := by decide +kernel
theorem dX0_sees_21 : decode cX0_sees 21 = .ok (.iload_n 1, 1) := by decide +kernel
theorem dX0_sees_22 : decode cX0_sees 22 = .ok (.if_icmp .ne 11, 3) := by decide +kernel
theorem dX0_sees_25 : decode cX0_sees 25 = .ok (.aload_n 0, 1) := by decide +kernel
theorem dX0_sees_26 : decode cX0_sees 26 = .ok (.iload_n 2, 1) := by decide +kernel
theorem dX0_sees_27 : decode cX0_sees 27 = .ok (.invokevirtual 64, 3) := by decide +kernel
theorem dX0_sees_30 : decode cX0_sees 30 = .ok (.goto 8, 3) := by decide +kernel
theorem dX0_sees_33 : decode cX0_sees 33 = .ok (.aload_n 0, 1) := by decide +kernel
theorem dX0_sees_34 : decode cX0_sees 34 = .ok (.iload_n 2, 1) := by decide +kernel
theorem dX0_sees_35 : decode cX0_sees 35 = .ok (.invokevirtual 94, 3) := by decide +kernel
theorem dX0_sees_38 : decode cX0_sees 38 = .ok (.ireturn, 1) := by decide +kernel
abbrev cX0_writerOf : ByteArray := prog_1_method_14_code
def yX0_writerOf : MethodName := ⟨RX0, "writerOf", "(I)I"⟩
theorem dX0_writerOf_0 : decode cX0_writerOf 0 = .ok (.iconst 0, 1) := by decide +kernel
theorem dX0_writerOf_1 : decode cX0_writerOf 1 = .ok (.istore_n 2, 1) := by decide +kernel
theorem dX0_writerOf_2 : decode cX0_writerOf 2 = .ok (.iload_n 2, 1) := by decide +kernel
theorem dX0_writerOf_3 : decode cX0_writerOf 3 = .ok (.iconst 4, 1) := by decide +kernel
theorem dX0_writerOf_4 : decode cX0_writerOf 4 = .ok (.if_icmp .ge 25, 3) := by decide +kernel
theorem dX0_writerOf_7 : decode cX0_writerOf 7 = .ok (.aload_n 0, 1) := by decide +kernel
theorem dX0_writerOf_8 : decode cX0_writerOf 8 = .ok (.iload_n 2, 1) := by decide +kernel
theorem dX0_writerOf_9 : decode cX0_writerOf 9 = .ok (.invokevirtual 57, 3) := by decide +kernel
theorem dX0_writerOf_12 : decode cX0_writerOf 12 = .ok (.istore_n 3, 1) := by decide +kernel
theorem dX0_writerOf_13 : decode cX0_writerOf 13 = .ok (.iload_n 3, 1) := by decide +kernel
theorem dX0_writerOf_14 : decode cX0_writerOf 14 = .ok (.iload_n 1, 1) := by decide +kernel
theorem dX0_writerOf_15 : decode cX0_writerOf 15 = .ok (.ishr, 1) := by decide +kernel
theorem dX0_writerOf_16 : decode cX0_writerOf 16 = .ok (.iconst 1, 1) := by decide +kernel
theorem dX0_writerOf_17 : decode cX0_writerOf 17 = .ok (.iand, 1) := by decide +kernel
theorem dX0_writerOf_18 : decode cX0_writerOf 18 = .ok (.ifCond .eq 5, 3) := by decide +kernel
theorem dX0_writerOf_21 : decode cX0_writerOf 21 = .ok (.iload_n 2, 1) := by decide +kernel
theorem dX0_writerOf_22 : decode cX0_writerOf 22 = .ok (.ireturn, 1) := by decide +kernel
theorem dX0_writerOf_23 : decode cX0_writerOf 23 = .ok (.iinc 2 1, 3) := by decide +kernel
theorem dX0_writerOf_26 : decode cX0_writerOf 26 = .ok (.goto (-24), 3) := by decide +kernel
theorem dX0_writerOf_29 : decode cX0_writerOf 29 = .ok (.iconst (-1), 1) := by decide +kernel
theorem dX0_writerOf_30 : decode cX0_writerOf 30 = .ok (.ireturn, 1) := by decide +kernel
abbrev cX0_newest : ByteArray := prog_1_method_6_code
def yX0_newest : MethodName := ⟨RX0, "newest", "(I)I"⟩
theorem dX0_newest_0 : decode cX0_newest 0 = .ok (.iconst 0, 1) := by decide +kernel
theorem dX0_newest_1 : decode cX0_newest 1 = .ok (.istore_n 2, 1) := by decide +kernel
theorem dX0_newest_2 : decode cX0_newest 2 = .ok (.iload_n 2, 1) := by decide +kernel
theorem dX0_newest_3 : decode cX0_newest 3 = .ok (.iconst 4, 1) := by decide +kernel
theorem dX0_newest_4 : decode cX0_newest 4 = .ok (.if_icmp .ge 41, 3) := by decide +kernel
theorem dX0_newest_7 : decode cX0_newest 7 = .ok (.iload_n 2, 1) := by decide +kernel
theorem dX0_newest_8 : decode cX0_newest 8 = .ok (.iload_n 1, 1) := by decide +kernel
theorem dX0_newest_9 : decode cX0_newest 9 = .ok (.invokestatic 41, 3) := by decide +kernel
theorem dX0_newest_12 : decode cX0_newest 12 = .ok (.istore_n 3, 1) := by decide +kernel
theorem dX0_newest_13 : decode cX0_newest 13 = .ok (.aload_n 0, 1) := by decide +kernel
theorem dX0_newest_14 : decode cX0_newest 14 = .ok (.iload_n 2, 1) := by decide +kernel
theorem dX0_newest_15 : decode cX0_newest 15 = .ok (.iload_n 1, 1) := by decide +kernel
theorem dX0_newest_16 : decode cX0_newest 16 = .ok (.invokevirtual 45, 3) := by decide +kernel
theorem dX0_newest_19 : decode cX0_newest 19 = .ok (.ifCond .eq 20, 3) := by decide +kernel
theorem dX0_newest_22 : decode cX0_newest 22 = .ok (.aload_n 0, 1) := by decide +kernel
theorem dX0_newest_23 : decode cX0_newest 23 = .ok (.getfield 17, 3) := by decide +kernel
theorem dX0_newest_26 : decode cX0_newest 26 = .ok (.iload_n 3, 1) := by decide +kernel
theorem dX0_newest_27 : decode cX0_newest 27 = .ok (.baload, 1) := by decide +kernel
theorem dX0_newest_28 : decode cX0_newest 28 = .ok (.iconst 3, 1) := by decide +kernel
theorem dX0_newest_29 : decode cX0_newest 29 = .ok (.if_icmp .ne 10, 3) := by decide +kernel
theorem dX0_newest_32 : decode cX0_newest 32 = .ok (.aload_n 0, 1) := by decide +kernel
theorem dX0_newest_33 : decode cX0_newest 33 = .ok (.getfield 20, 3) := by decide +kernel
theorem dX0_newest_36 : decode cX0_newest 36 = .ok (.iload_n 3, 1) := by decide +kernel
theorem dX0_newest_37 : decode cX0_newest 37 = .ok (.iaload, 1) := by decide +kernel
theorem dX0_newest_38 : decode cX0_newest 38 = .ok (.ireturn, 1) := by decide +kernel
theorem dX0_newest_39 : decode cX0_newest 39 = .ok (.iinc 2 1, 3) := by decide +kernel
theorem dX0_newest_42 : decode cX0_newest 42 = .ok (.goto (-40), 3) := by decide +kernel
theorem dX0_newest_45 : decode cX0_newest 45 = .ok (.aload_n 0, 1) := by decide +kernel
theorem dX0_newest_46 : decode cX0_newest 46 = .ok (.getfield 7, 3) := by decide +kernel
theorem dX0_newest_49 : decode cX0_newest 49 = .ok (.iload_n 1, 1) := by decide +kernel
theorem dX0_newest_50 : decode cX0_newest 50 = .ok (.iaload, 1) := by decide +kernel
theorem dX0_newest_51 : decode cX0_newest 51 = .ok (.ireturn, 1) := by decide +kernel
abbrev cX0_committedIn : ByteArray := prog_1_method_15_code
def yX0_committedIn : MethodName := ⟨RX0, "committedIn", "(I)I"⟩
theorem dX0_committedIn_0 : decode cX0_committedIn 0 = .ok (.aload_n 0, 1) := by decide +kernel
theorem dX0_committedIn_1 : decode cX0_committedIn 1 = .ok (.iload_n 1, 1) := by decide +kernel
theorem dX0_committedIn_2 : decode cX0_committedIn 2 = .ok (.invokevirtual 67, 3) := by decide +kernel
theorem dX0_committedIn_5 : decode cX0_committedIn 5 = .ok (.istore_n 2, 1) := by decide +kernel
theorem dX0_committedIn_6 : decode cX0_committedIn 6 = .ok (.iload_n 2, 1) := by decide +kernel
theorem dX0_committedIn_7 : decode cX0_committedIn 7 = .ok (.ifCond .ge 11, 3) := by decide +kernel
theorem dX0_committedIn_10 : decode cX0_committedIn 10 = .ok (.aload_n 0, 1) := by decide +kernel
theorem dX0_committedIn_11 : decode cX0_committedIn 11 = .ok (.iload_n 1, 1) := by decide +kernel
theorem dX0_committedIn_12 : decode cX0_committedIn 12 = .ok (.invokevirtual 64, 3) := by decide +kernel
theorem dX0_committedIn_15 : decode cX0_committedIn 15 = .ok (.goto 9, 3) := by decide +kernel
theorem dX0_committedIn_18 : decode cX0_committedIn 18 = .ok (.aload_n 0, 1) := by decide +kernel
theorem dX0_committedIn_19 : decode cX0_committedIn 19 = .ok (.iload_n 2, 1) := by decide +kernel
theorem dX0_committedIn_20 : decode cX0_committedIn 20 = .ok (.iload_n 1, 1) := by decide +kernel
theorem dX0_committedIn_21 : decode cX0_committedIn 21 = .ok (.invokevirtual 70, 3) := by decide +kernel
theorem dX0_committedIn_24 : decode cX0_committedIn 24 = .ok (.ireturn, 1) := by decide +kernel
abbrev cX0_before : ByteArray := prog_1_method_13_code
def yX0_before : MethodName := ⟨RX0, "before", "(II)I"⟩
theorem dX0_before_0 : decode cX0_before 0 = .ok (.iconst 0, 1) := by decide +kernel
theorem dX0_before_1 : decode cX0_before 1 = .ok (.istore_n 3, 1) := by decide +kernel
theorem dX0_before_2 : decode cX0_before 2 = .ok (.iload_n 3, 1) := by decide +kernel
theorem dX0_before_3 : decode cX0_before 3 = .ok (.aload_n 0, 1) := by decide +kernel
theorem dX0_before_4 : decode cX0_before 4 = .ok (.getfield 23, 3) := by decide +kernel
theorem dX0_before_7 : decode cX0_before 7 = .ok (.iload_n 1, 1) := by decide +kernel
theorem dX0_before_8 : decode cX0_before 8 = .ok (.baload, 1) := by decide +kernel
theorem dX0_before_9 : decode cX0_before 9 = .ok (.if_icmp .ge 68, 3) := by decide +kernel
theorem dX0_before_12 : decode cX0_before 12 = .ok (.iload_n 1, 1) := by decide +kernel
theorem dX0_before_13 : decode cX0_before 13 = .ok (.iconst 3, 1) := by decide +kernel
theorem dX0_before_14 : decode cX0_before 14 = .ok (.imul, 1) := by decide +kernel
theorem dX0_before_15 : decode cX0_before 15 = .ok (.iload_n 3, 1) := by decide +kernel
theorem dX0_before_16 : decode cX0_before 16 = .ok (.iadd, 1) := by decide +kernel
theorem dX0_before_17 : decode cX0_before 17 = .ok (.istore 4, 2) := by decide +kernel
theorem dX0_before_19 : decode cX0_before 19 = .ok (.iconst 0, 1) := by decide +kernel
theorem dX0_before_20 : decode cX0_before 20 = .ok (.istore 5, 2) := by decide +kernel
theorem dX0_before_22 : decode cX0_before 22 = .ok (.iload 5, 2) := by decide +kernel
theorem dX0_before_24 : decode cX0_before 24 = .ok (.aload_n 0, 1) := by decide +kernel
theorem dX0_before_25 : decode cX0_before 25 = .ok (.getfield 32, 3) := by decide +kernel
theorem dX0_before_28 : decode cX0_before 28 = .ok (.iload 4, 2) := by decide +kernel
theorem dX0_before_30 : decode cX0_before 30 = .ok (.baload, 1) := by decide +kernel
theorem dX0_before_31 : decode cX0_before 31 = .ok (.if_icmp .ge 40, 3) := by decide +kernel
theorem dX0_before_34 : decode cX0_before 34 = .ok (.aload_n 0, 1) := by decide +kernel
theorem dX0_before_35 : decode cX0_before 35 = .ok (.getfield 35, 3) := by decide +kernel
theorem dX0_before_38 : decode cX0_before 38 = .ok (.iload 4, 2) := by decide +kernel
theorem dX0_before_40 : decode cX0_before 40 = .ok (.bipush 16, 2) := by decide +kernel
theorem dX0_before_42 : decode cX0_before 42 = .ok (.imul, 1) := by decide +kernel
theorem dX0_before_43 : decode cX0_before 43 = .ok (.iload 5, 2) := by decide +kernel
theorem dX0_before_45 : decode cX0_before 45 = .ok (.iadd, 1) := by decide +kernel
theorem dX0_before_46 : decode cX0_before 46 = .ok (.baload, 1) := by decide +kernel
theorem dX0_before_47 : decode cX0_before 47 = .ok (.iload_n 2, 1) := by decide +kernel
theorem dX0_before_48 : decode cX0_before 48 = .ok (.if_icmp .ne 17, 3) := by decide +kernel
theorem dX0_before_51 : decode cX0_before 51 = .ok (.aload_n 0, 1) := by decide +kernel
theorem dX0_before_52 : decode cX0_before 52 = .ok (.getfield 38, 3) := by decide +kernel
theorem dX0_before_55 : decode cX0_before 55 = .ok (.iload 4, 2) := by decide +kernel
theorem dX0_before_57 : decode cX0_before 57 = .ok (.bipush 16, 2) := by decide +kernel
theorem dX0_before_59 : decode cX0_before 59 = .ok (.imul, 1) := by decide +kernel
theorem dX0_before_60 : decode cX0_before 60 = .ok (.iload 5, 2) := by decide +kernel
theorem dX0_before_62 : decode cX0_before 62 = .ok (.iadd, 1) := by decide +kernel
theorem dX0_before_63 : decode cX0_before 63 = .ok (.iaload, 1) := by decide +kernel
theorem dX0_before_64 : decode cX0_before 64 = .ok (.ireturn, 1) := by decide +kernel
theorem dX0_before_65 : decode cX0_before 65 = .ok (.iinc 5 1, 3) := by decide +kernel
theorem dX0_before_68 : decode cX0_before 68 = .ok (.goto (-46), 3) := by decide +kernel
theorem dX0_before_71 : decode cX0_before 71 = .ok (.iinc 3 1, 3) := by decide +kernel
theorem dX0_before_74 : decode cX0_before 74 = .ok (.goto (-72), 3) := by decide +kernel
theorem dX0_before_77 : decode cX0_before 77 = .ok (.aload_n 0, 1) := by decide +kernel
theorem dX0_before_78 : decode cX0_before 78 = .ok (.iload_n 2, 1) := by decide +kernel
theorem dX0_before_79 : decode cX0_before 79 = .ok (.invokevirtual 64, 3) := by decide +kernel
theorem dX0_before_82 : decode cX0_before 82 = .ok (.ireturn, 1) := by decide +kernel
abbrev cX0_write : ByteArray := prog_1_method_23_code
def yX0_write : MethodName := ⟨RX0, "write", "(III)I"⟩
theorem dX0_write_0 : decode cX0_write 0 = .ok (.iload_n 1, 1) := by decide +kernel
theorem dX0_write_1 : decode cX0_write 1 = .ok (.invokestatic 80, 3) := by decide +kernel
theorem dX0_write_4 : decode cX0_write 4 = .ok (.ifCond .eq 10, 3) := by decide +kernel
theorem dX0_write_7 : decode cX0_write 7 = .ok (.iload_n 2, 1) := by decide +kernel
theorem dX0_write_8 : decode cX0_write 8 = .ok (.invokestatic 84, 3) := by decide +kernel
theorem dX0_write_11 : decode cX0_write 11 = .ok (.ifCond .ne 5, 3) := by decide +kernel
theorem dX0_write_14 : decode cX0_write 14 = .ok (.iconst (-1), 1) := by decide +kernel
theorem dX0_write_15 : decode cX0_write 15 = .ok (.ireturn, 1) := by decide +kernel
theorem dX0_write_16 : decode cX0_write 16 = .ok (.aload_n 0, 1) := by decide +kernel
theorem dX0_write_17 : decode cX0_write 17 = .ok (.iload_n 1, 1) := by decide +kernel
theorem dX0_write_18 : decode cX0_write 18 = .ok (.iload_n 2, 1) := by decide +kernel
theorem dX0_write_19 : decode cX0_write 19 = .ok (.iconst 1, 1) := by decide +kernel
theorem dX0_write_20 : decode cX0_write 20 = .ok (.invokevirtual 87, 3) := by decide +kernel
theorem dX0_write_23 : decode cX0_write 23 = .ok (.ifCond .eq 6, 3) := by decide +kernel
theorem dX0_write_26 : decode cX0_write 26 = .ok (.bipush (-2), 2) := by decide +kernel
theorem dX0_write_28 : decode cX0_write 28 = .ok (.ireturn, 1) := by decide +kernel
theorem dX0_write_29 : decode cX0_write 29 = .ok (.aload_n 0, 1) := by decide +kernel
theorem dX0_write_30 : decode cX0_write 30 = .ok (.iload_n 1, 1) := by decide +kernel
theorem dX0_write_31 : decode cX0_write 31 = .ok (.iload_n 2, 1) := by decide +kernel
theorem dX0_write_32 : decode cX0_write 32 = .ok (.iload_n 3, 1) := by decide +kernel
theorem dX0_write_33 : decode cX0_write 33 = .ok (.invokevirtual 97, 3) := by decide +kernel
theorem dX0_write_36 : decode cX0_write 36 = .ok (.iconst 0, 1) := by decide +kernel
theorem dX0_write_37 : decode cX0_write 37 = .ok (.ireturn, 1) := by decide +kernel
abbrev cX0_change : ByteArray := prog_1_method_18_code
def yX0_change : MethodName := ⟨RX0, "change", "(III)V"⟩
theorem dX0_change_0 : decode cX0_change 0 = .ok (.aload_n 0, 1) := by decide +kernel
theorem dX0_change_1 : decode cX0_change 1 = .ok (.getfield 23, 3) := by decide +kernel
theorem dX0_change_4 : decode cX0_change 4 = .ok (.iload_n 1, 1) := by decide +kernel
theorem dX0_change_5 : decode cX0_change 5 = .ok (.baload, 1) := by decide +kernel
theorem dX0_change_6 : decode cX0_change 6 = .ok (.ifCond .le 47, 3) := by decide +kernel
theorem dX0_change_9 : decode cX0_change 9 = .ok (.iload_n 1, 1) := by decide +kernel
theorem dX0_change_10 : decode cX0_change 10 = .ok (.iconst 3, 1) := by decide +kernel
theorem dX0_change_11 : decode cX0_change 11 = .ok (.imul, 1) := by decide +kernel
theorem dX0_change_12 : decode cX0_change 12 = .ok (.aload_n 0, 1) := by decide +kernel
theorem dX0_change_13 : decode cX0_change 13 = .ok (.getfield 23, 3) := by decide +kernel
theorem dX0_change_16 : decode cX0_change 16 = .ok (.iload_n 1, 1) := by decide +kernel
theorem dX0_change_17 : decode cX0_change 17 = .ok (.baload, 1) := by decide +kernel
theorem dX0_change_18 : decode cX0_change 18 = .ok (.iadd, 1) := by decide +kernel
theorem dX0_change_19 : decode cX0_change 19 = .ok (.iconst 1, 1) := by decide +kernel
theorem dX0_change_20 : decode cX0_change 20 = .ok (.isub, 1) := by decide +kernel
theorem dX0_change_21 : decode cX0_change 21 = .ok (.istore 4, 2) := by decide +kernel
theorem dX0_change_23 : decode cX0_change 23 = .ok (.aload_n 0, 1) := by decide +kernel
theorem dX0_change_24 : decode cX0_change 24 = .ok (.getfield 29, 3) := by decide +kernel
theorem dX0_change_27 : decode cX0_change 27 = .ok (.iload 4, 2) := by decide +kernel
theorem dX0_change_29 : decode cX0_change 29 = .ok (.iaload, 1) := by decide +kernel
theorem dX0_change_30 : decode cX0_change 30 = .ok (.iload_n 2, 1) := by decide +kernel
theorem dX0_change_31 : decode cX0_change 31 = .ok (.ishr, 1) := by decide +kernel
theorem dX0_change_32 : decode cX0_change 32 = .ok (.iconst 1, 1) := by decide +kernel
theorem dX0_change_33 : decode cX0_change 33 = .ok (.iand, 1) := by decide +kernel
theorem dX0_change_34 : decode cX0_change 34 = .ok (.ifCond .ne 19, 3) := by decide +kernel
theorem dX0_change_37 : decode cX0_change 37 = .ok (.aload_n 0, 1) := by decide +kernel
theorem dX0_change_38 : decode cX0_change 38 = .ok (.iload_n 2, 1) := by decide +kernel
theorem dX0_change_39 : decode cX0_change 39 = .ok (.invokevirtual 64, 3) := by decide +kernel
theorem dX0_change_42 : decode cX0_change 42 = .ok (.istore 5, 2) := by decide +kernel
theorem dX0_change_44 : decode cX0_change 44 = .ok (.aload_n 0, 1) := by decide +kernel
theorem dX0_change_45 : decode cX0_change 45 = .ok (.iload 4, 2) := by decide +kernel
theorem dX0_change_47 : decode cX0_change 47 = .ok (.iload_n 2, 1) := by decide +kernel
theorem dX0_change_48 : decode cX0_change 48 = .ok (.iload 5, 2) := by decide +kernel
theorem dX0_change_50 : decode cX0_change 50 = .ok (.invokevirtual 73, 3) := by decide +kernel
theorem dX0_change_53 : decode cX0_change 53 = .ok (.aload_n 0, 1) := by decide +kernel
theorem dX0_change_54 : decode cX0_change 54 = .ok (.iload_n 1, 1) := by decide +kernel
theorem dX0_change_55 : decode cX0_change 55 = .ok (.iload_n 2, 1) := by decide +kernel
theorem dX0_change_56 : decode cX0_change 56 = .ok (.iload_n 3, 1) := by decide +kernel
theorem dX0_change_57 : decode cX0_change 57 = .ok (.invokevirtual 77, 3) := by decide +kernel
theorem dX0_change_60 : decode cX0_change 60 = .ok (.return_, 1) := by decide +kernel
abbrev cX0_log : ByteArray := prog_1_method_17_code
def yX0_log : MethodName := ⟨RX0, "log", "(III)V"⟩
theorem dX0_log_0 : decode cX0_log 0 = .ok (.aload_n 0, 1) := by decide +kernel
theorem dX0_log_1 : decode cX0_log 1 = .ok (.getfield 35, 3) := by decide +kernel
theorem dX0_log_4 : decode cX0_log 4 = .ok (.iload_n 1, 1) := by decide +kernel
theorem dX0_log_5 : decode cX0_log 5 = .ok (.bipush 16, 2) := by decide +kernel
theorem dX0_log_7 : decode cX0_log 7 = .ok (.imul, 1) := by decide +kernel
theorem dX0_log_8 : decode cX0_log 8 = .ok (.aload_n 0, 1) := by decide +kernel
theorem dX0_log_9 : decode cX0_log 9 = .ok (.getfield 32, 3) := by decide +kernel
theorem dX0_log_12 : decode cX0_log 12 = .ok (.iload_n 1, 1) := by decide +kernel
theorem dX0_log_13 : decode cX0_log 13 = .ok (.baload, 1) := by decide +kernel
theorem dX0_log_14 : decode cX0_log 14 = .ok (.iadd, 1) := by decide +kernel
theorem dX0_log_15 : decode cX0_log 15 = .ok (.iload_n 2, 1) := by decide +kernel
theorem dX0_log_16 : decode cX0_log 16 = .ok (.i2b, 1) := by decide +kernel
theorem dX0_log_17 : decode cX0_log 17 = .ok (.bastore, 1) := by decide +kernel
theorem dX0_log_18 : decode cX0_log 18 = .ok (.aload_n 0, 1) := by decide +kernel
theorem dX0_log_19 : decode cX0_log 19 = .ok (.getfield 38, 3) := by decide +kernel
theorem dX0_log_22 : decode cX0_log 22 = .ok (.iload_n 1, 1) := by decide +kernel
theorem dX0_log_23 : decode cX0_log 23 = .ok (.bipush 16, 2) := by decide +kernel
theorem dX0_log_25 : decode cX0_log 25 = .ok (.imul, 1) := by decide +kernel
theorem dX0_log_26 : decode cX0_log 26 = .ok (.aload_n 0, 1) := by decide +kernel
theorem dX0_log_27 : decode cX0_log 27 = .ok (.getfield 32, 3) := by decide +kernel
theorem dX0_log_30 : decode cX0_log 30 = .ok (.iload_n 1, 1) := by decide +kernel
theorem dX0_log_31 : decode cX0_log 31 = .ok (.baload, 1) := by decide +kernel
theorem dX0_log_32 : decode cX0_log 32 = .ok (.iadd, 1) := by decide +kernel
theorem dX0_log_33 : decode cX0_log 33 = .ok (.iload_n 3, 1) := by decide +kernel
theorem dX0_log_34 : decode cX0_log 34 = .ok (.iastore, 1) := by decide +kernel
theorem dX0_log_35 : decode cX0_log 35 = .ok (.aload_n 0, 1) := by decide +kernel
theorem dX0_log_36 : decode cX0_log 36 = .ok (.getfield 32, 3) := by decide +kernel
theorem dX0_log_39 : decode cX0_log 39 = .ok (.iload_n 1, 1) := by decide +kernel
theorem dX0_log_40 : decode cX0_log 40 = .ok (.dup2, 1) := by decide +kernel
theorem dX0_log_41 : decode cX0_log 41 = .ok (.baload, 1) := by decide +kernel
theorem dX0_log_42 : decode cX0_log 42 = .ok (.iconst 1, 1) := by decide +kernel
theorem dX0_log_43 : decode cX0_log 43 = .ok (.iadd, 1) := by decide +kernel
theorem dX0_log_44 : decode cX0_log 44 = .ok (.i2b, 1) := by decide +kernel
theorem dX0_log_45 : decode cX0_log 45 = .ok (.bastore, 1) := by decide +kernel
theorem dX0_log_46 : decode cX0_log 46 = .ok (.aload_n 0, 1) := by decide +kernel
theorem dX0_log_47 : decode cX0_log 47 = .ok (.getfield 29, 3) := by decide +kernel
theorem dX0_log_50 : decode cX0_log 50 = .ok (.iload_n 1, 1) := by decide +kernel
theorem dX0_log_51 : decode cX0_log 51 = .ok (.dup2, 1) := by decide +kernel
theorem dX0_log_52 : decode cX0_log 52 = .ok (.iaload, 1) := by decide +kernel
theorem dX0_log_53 : decode cX0_log 53 = .ok (.iconst 1, 1) := by decide +kernel
theorem dX0_log_54 : decode cX0_log 54 = .ok (.iload_n 2, 1) := by decide +kernel
theorem dX0_log_55 : decode cX0_log 55 = .ok (.ishl, 1) := by decide +kernel
theorem dX0_log_56 : decode cX0_log 56 = .ok (.ior, 1) := by decide +kernel
theorem dX0_log_57 : decode cX0_log 57 = .ok (.iastore, 1) := by decide +kernel
theorem dX0_log_58 : decode cX0_log 58 = .ok (.return_, 1) := by decide +kernel
abbrev cX0_store : ByteArray := prog_1_method_9_code
def yX0_store : MethodName := ⟨RX0, "store", "(III)V"⟩
theorem dX0_store_0 : decode cX0_store 0 = .ok (.aload_n 0, 1) := by decide +kernel
theorem dX0_store_1 : decode cX0_store 1 = .ok (.iload_n 1, 1) := by decide +kernel
theorem dX0_store_2 : decode cX0_store 2 = .ok (.iload_n 2, 1) := by decide +kernel
theorem dX0_store_3 : decode cX0_store 3 = .ok (.invokevirtual 53, 3) := by decide +kernel
theorem dX0_store_6 : decode cX0_store 6 = .ok (.iload_n 1, 1) := by decide +kernel
theorem dX0_store_7 : decode cX0_store 7 = .ok (.iload_n 2, 1) := by decide +kernel
theorem dX0_store_8 : decode cX0_store 8 = .ok (.invokestatic 41, 3) := by decide +kernel
theorem dX0_store_11 : decode cX0_store 11 = .ok (.istore 4, 2) := by decide +kernel
theorem dX0_store_13 : decode cX0_store 13 = .ok (.aload_n 0, 1) := by decide +kernel
theorem dX0_store_14 : decode cX0_store 14 = .ok (.getfield 17, 3) := by decide +kernel
theorem dX0_store_17 : decode cX0_store 17 = .ok (.iload 4, 2) := by decide +kernel
theorem dX0_store_19 : decode cX0_store 19 = .ok (.baload, 1) := by decide +kernel
theorem dX0_store_20 : decode cX0_store 20 = .ok (.iconst 1, 1) := by decide +kernel
theorem dX0_store_21 : decode cX0_store 21 = .ok (.if_icmp .ne 50, 3) := by decide +kernel
theorem dX0_store_24 : decode cX0_store 24 = .ok (.iconst 0, 1) := by decide +kernel
theorem dX0_store_25 : decode cX0_store 25 = .ok (.istore 5, 2) := by decide +kernel
theorem dX0_store_27 : decode cX0_store 27 = .ok (.iload 5, 2) := by decide +kernel
theorem dX0_store_29 : decode cX0_store 29 = .ok (.iconst 4, 1) := by decide +kernel
theorem dX0_store_30 : decode cX0_store 30 = .ok (.if_icmp .ge 41, 3) := by decide +kernel
theorem dX0_store_33 : decode cX0_store 33 = .ok (.iload 5, 2) := by decide +kernel
theorem dX0_store_35 : decode cX0_store 35 = .ok (.iload_n 1, 1) := by decide +kernel
theorem dX0_store_36 : decode cX0_store 36 = .ok (.if_icmp .eq 29, 3) := by decide +kernel
theorem dX0_store_39 : decode cX0_store 39 = .ok (.aload_n 0, 1) := by decide +kernel
theorem dX0_store_40 : decode cX0_store 40 = .ok (.iload 5, 2) := by decide +kernel
theorem dX0_store_42 : decode cX0_store 42 = .ok (.iload_n 2, 1) := by decide +kernel
theorem dX0_store_43 : decode cX0_store 43 = .ok (.invokevirtual 45, 3) := by decide +kernel
theorem dX0_store_46 : decode cX0_store 46 = .ok (.ifCond .eq 19, 3) := by decide +kernel
theorem dX0_store_49 : decode cX0_store 49 = .ok (.iload 5, 2) := by decide +kernel
theorem dX0_store_51 : decode cX0_store 51 = .ok (.iload_n 2, 1) := by decide +kernel
theorem dX0_store_52 : decode cX0_store 52 = .ok (.invokestatic 41, 3) := by decide +kernel
theorem dX0_store_55 : decode cX0_store 55 = .ok (.istore 6, 2) := by decide +kernel
theorem dX0_store_57 : decode cX0_store 57 = .ok (.aload_n 0, 1) := by decide +kernel
theorem dX0_store_58 : decode cX0_store 58 = .ok (.getfield 17, 3) := by decide +kernel
theorem dX0_store_61 : decode cX0_store 61 = .ok (.iload 6, 2) := by decide +kernel
theorem dX0_store_63 : decode cX0_store 63 = .ok (.iconst 0, 1) := by decide +kernel
theorem dX0_store_64 : decode cX0_store 64 = .ok (.bastore, 1) := by decide +kernel
theorem dX0_store_65 : decode cX0_store 65 = .ok (.iinc 5 1, 3) := by decide +kernel
theorem dX0_store_68 : decode cX0_store 68 = .ok (.goto (-41), 3) := by decide +kernel
theorem dX0_store_71 : decode cX0_store 71 = .ok (.aload_n 0, 1) := by decide +kernel
theorem dX0_store_72 : decode cX0_store 72 = .ok (.getfield 17, 3) := by decide +kernel
theorem dX0_store_75 : decode cX0_store 75 = .ok (.iload 4, 2) := by decide +kernel
theorem dX0_store_77 : decode cX0_store 77 = .ok (.iconst 3, 1) := by decide +kernel
theorem dX0_store_78 : decode cX0_store 78 = .ok (.bastore, 1) := by decide +kernel
theorem dX0_store_79 : decode cX0_store 79 = .ok (.aload_n 0, 1) := by decide +kernel
theorem dX0_store_80 : decode cX0_store 80 = .ok (.getfield 20, 3) := by decide +kernel
theorem dX0_store_83 : decode cX0_store 83 = .ok (.iload 4, 2) := by decide +kernel
theorem dX0_store_85 : decode cX0_store 85 = .ok (.iload_n 3, 1) := by decide +kernel
theorem dX0_store_86 : decode cX0_store 86 = .ok (.iastore, 1) := by decide +kernel
theorem dX0_store_87 : decode cX0_store 87 = .ok (.return_, 1) := by decide +kernel
end
section
set_option maxRecDepth 100000
abbrev cX0_add : ByteArray := prog_1_method_24_code
def yX0_add : MethodName := ⟨RX0, "add", "(III)I"⟩
theorem dX0_add_0 : decode cX0_add 0 = .ok (.iload_n 1, 1) := by decide +kernel
theorem dX0_add_1 : decode cX0_add 1 = .ok (.invokestatic 80, 3) := by decide +kernel
theorem dX0_add_4 : decode cX0_add 4 = .ok (.ifCond .eq 10, 3) := by decide +kernel
theorem dX0_add_7 : decode cX0_add 7 = .ok (.iload_n 2, 1) := by decide +kernel
theorem dX0_add_8 : decode cX0_add 8 = .ok (.invokestatic 84, 3) := by decide +kernel
theorem dX0_add_11 : decode cX0_add 11 = .ok (.ifCond .ne 5, 3) := by decide +kernel
theorem dX0_add_14 : decode cX0_add 14 = .ok (.iconst (-1), 1) := by decide +kernel
theorem dX0_add_15 : decode cX0_add 15 = .ok (.ireturn, 1) := by decide +kernel
theorem dX0_add_16 : decode cX0_add 16 = .ok (.aload_n 0, 1) := by decide +kernel
theorem dX0_add_17 : decode cX0_add 17 = .ok (.iload_n 1, 1) := by decide +kernel
theorem dX0_add_18 : decode cX0_add 18 = .ok (.iload_n 2, 1) := by decide +kernel
theorem dX0_add_19 : decode cX0_add 19 = .ok (.iconst 1, 1) := by decide +kernel
theorem dX0_add_20 : decode cX0_add 20 = .ok (.invokevirtual 87, 3) := by decide +kernel
theorem dX0_add_23 : decode cX0_add 23 = .ok (.ifCond .eq 6, 3) := by decide +kernel
theorem dX0_add_26 : decode cX0_add 26 = .ok (.bipush (-2), 2) := by decide +kernel
theorem dX0_add_28 : decode cX0_add 28 = .ok (.ireturn, 1) := by decide +kernel
theorem dX0_add_29 : decode cX0_add 29 = .ok (.aload_n 0, 1) := by decide +kernel
theorem dX0_add_30 : decode cX0_add 30 = .ok (.iload_n 1, 1) := by decide +kernel
theorem dX0_add_31 : decode cX0_add 31 = .ok (.iload_n 2, 1) := by decide +kernel
theorem dX0_add_32 : decode cX0_add 32 = .ok (.invokevirtual 53, 3) := by decide +kernel
theorem dX0_add_35 : decode cX0_add 35 = .ok (.aload_n 0, 1) := by decide +kernel
theorem dX0_add_36 : decode cX0_add 36 = .ok (.iload_n 1, 1) := by decide +kernel
theorem dX0_add_37 : decode cX0_add 37 = .ok (.iload_n 2, 1) := by decide +kernel
theorem dX0_add_38 : decode cX0_add 38 = .ok (.invokevirtual 91, 3) := by decide +kernel
theorem dX0_add_41 : decode cX0_add 41 = .ok (.aload_n 0, 1) := by decide +kernel
theorem dX0_add_42 : decode cX0_add 42 = .ok (.getfield 20, 3) := by decide +kernel
theorem dX0_add_45 : decode cX0_add 45 = .ok (.iload_n 1, 1) := by decide +kernel
theorem dX0_add_46 : decode cX0_add 46 = .ok (.iload_n 2, 1) := by decide +kernel
theorem dX0_add_47 : decode cX0_add 47 = .ok (.invokestatic 41, 3) := by decide +kernel
theorem dX0_add_50 : decode cX0_add 50 = .ok (.iaload, 1) := by decide +kernel
theorem dX0_add_51 : decode cX0_add 51 = .ok (.istore 4, 2) := by decide +kernel
theorem dX0_add_53 : decode cX0_add 53 = .ok (.aload_n 0, 1) := by decide +kernel
theorem dX0_add_54 : decode cX0_add 54 = .ok (.iload_n 1, 1) := by decide +kernel
theorem dX0_add_55 : decode cX0_add 55 = .ok (.iload_n 2, 1) := by decide +kernel
theorem dX0_add_56 : decode cX0_add 56 = .ok (.iload 4, 2) := by decide +kernel
theorem dX0_add_58 : decode cX0_add 58 = .ok (.iload_n 3, 1) := by decide +kernel
theorem dX0_add_59 : decode cX0_add 59 = .ok (.iadd, 1) := by decide +kernel
theorem dX0_add_60 : decode cX0_add 60 = .ok (.invokevirtual 97, 3) := by decide +kernel
theorem dX0_add_63 : decode cX0_add 63 = .ok (.iconst 0, 1) := by decide +kernel
theorem dX0_add_64 : decode cX0_add 64 = .ok (.ireturn, 1) := by decide +kernel
abbrev cX0_end : ByteArray := prog_1_method_25_code
def yX0_end : MethodName := ⟨RX0, "end", "(I)I"⟩
theorem dX0_end_0 : decode cX0_end 0 = .ok (.iload_n 1, 1) := by decide +kernel
theorem dX0_end_1 : decode cX0_end 1 = .ok (.invokestatic 80, 3) := by decide +kernel
theorem dX0_end_4 : decode cX0_end 4 = .ok (.ifCond .eq 12, 3) := by decide +kernel
theorem dX0_end_7 : decode cX0_end 7 = .ok (.aload_n 0, 1) := by decide +kernel
theorem dX0_end_8 : decode cX0_end 8 = .ok (.getfield 23, 3) := by decide +kernel
theorem dX0_end_11 : decode cX0_end 11 = .ok (.iload_n 1, 1) := by decide +kernel
theorem dX0_end_12 : decode cX0_end 12 = .ok (.baload, 1) := by decide +kernel
theorem dX0_end_13 : decode cX0_end 13 = .ok (.ifCond .ne 5, 3) := by decide +kernel
theorem dX0_end_16 : decode cX0_end 16 = .ok (.iconst (-1), 1) := by decide +kernel
theorem dX0_end_17 : decode cX0_end 17 = .ok (.ireturn, 1) := by decide +kernel
theorem dX0_end_18 : decode cX0_end 18 = .ok (.aload_n 0, 1) := by decide +kernel
theorem dX0_end_19 : decode cX0_end 19 = .ok (.getfield 23, 3) := by decide +kernel
theorem dX0_end_22 : decode cX0_end 22 = .ok (.iload_n 1, 1) := by decide +kernel
theorem dX0_end_23 : decode cX0_end 23 = .ok (.dup2, 1) := by decide +kernel
theorem dX0_end_24 : decode cX0_end 24 = .ok (.baload, 1) := by decide +kernel
theorem dX0_end_25 : decode cX0_end 25 = .ok (.iconst 1, 1) := by decide +kernel
theorem dX0_end_26 : decode cX0_end 26 = .ok (.isub, 1) := by decide +kernel
theorem dX0_end_27 : decode cX0_end 27 = .ok (.i2b, 1) := by decide +kernel
theorem dX0_end_28 : decode cX0_end 28 = .ok (.bastore, 1) := by decide +kernel
theorem dX0_end_29 : decode cX0_end 29 = .ok (.aload_n 0, 1) := by decide +kernel
theorem dX0_end_30 : decode cX0_end 30 = .ok (.getfield 23, 3) := by decide +kernel
theorem dX0_end_33 : decode cX0_end 33 = .ok (.iload_n 1, 1) := by decide +kernel
theorem dX0_end_34 : decode cX0_end 34 = .ok (.baload, 1) := by decide +kernel
theorem dX0_end_35 : decode cX0_end 35 = .ok (.ifCond .le 100, 3) := by decide +kernel
theorem dX0_end_38 : decode cX0_end 38 = .ok (.iload_n 1, 1) := by decide +kernel
theorem dX0_end_39 : decode cX0_end 39 = .ok (.iconst 3, 1) := by decide +kernel
theorem dX0_end_40 : decode cX0_end 40 = .ok (.imul, 1) := by decide +kernel
theorem dX0_end_41 : decode cX0_end 41 = .ok (.aload_n 0, 1) := by decide +kernel
theorem dX0_end_42 : decode cX0_end 42 = .ok (.getfield 23, 3) := by decide +kernel
theorem dX0_end_45 : decode cX0_end 45 = .ok (.iload_n 1, 1) := by decide +kernel
theorem dX0_end_46 : decode cX0_end 46 = .ok (.baload, 1) := by decide +kernel
theorem dX0_end_47 : decode cX0_end 47 = .ok (.iadd, 1) := by decide +kernel
theorem dX0_end_48 : decode cX0_end 48 = .ok (.istore_n 2, 1) := by decide +kernel
theorem dX0_end_49 : decode cX0_end 49 = .ok (.iload_n 2, 1) := by decide +kernel
theorem dX0_end_50 : decode cX0_end 50 = .ok (.iconst 1, 1) := by decide +kernel
theorem dX0_end_51 : decode cX0_end 51 = .ok (.isub, 1) := by decide +kernel
theorem dX0_end_52 : decode cX0_end 52 = .ok (.istore_n 3, 1) := by decide +kernel
theorem dX0_end_53 : decode cX0_end 53 = .ok (.aload_n 0, 1) := by decide +kernel
theorem dX0_end_54 : decode cX0_end 54 = .ok (.getfield 26, 3) := by decide +kernel
theorem dX0_end_57 : decode cX0_end 57 = .ok (.iload_n 3, 1) := by decide +kernel
theorem dX0_end_58 : decode cX0_end 58 = .ok (.dup2, 1) := by decide +kernel
theorem dX0_end_59 : decode cX0_end 59 = .ok (.iaload, 1) := by decide +kernel
theorem dX0_end_60 : decode cX0_end 60 = .ok (.aload_n 0, 1) := by decide +kernel
theorem dX0_end_61 : decode cX0_end 61 = .ok (.getfield 26, 3) := by decide +kernel
theorem dX0_end_64 : decode cX0_end 64 = .ok (.iload_n 2, 1) := by decide +kernel
theorem dX0_end_65 : decode cX0_end 65 = .ok (.iaload, 1) := by decide +kernel
theorem dX0_end_66 : decode cX0_end 66 = .ok (.ior, 1) := by decide +kernel
theorem dX0_end_67 : decode cX0_end 67 = .ok (.iastore, 1) := by decide +kernel
theorem dX0_end_68 : decode cX0_end 68 = .ok (.iconst 0, 1) := by decide +kernel
theorem dX0_end_69 : decode cX0_end 69 = .ok (.istore 4, 2) := by decide +kernel
theorem dX0_end_71 : decode cX0_end 71 = .ok (.iload 4, 2) := by decide +kernel
theorem dX0_end_73 : decode cX0_end 73 = .ok (.aload_n 0, 1) := by decide +kernel
theorem dX0_end_74 : decode cX0_end 74 = .ok (.getfield 32, 3) := by decide +kernel
theorem dX0_end_77 : decode cX0_end 77 = .ok (.iload_n 2, 1) := by decide +kernel
theorem dX0_end_78 : decode cX0_end 78 = .ok (.baload, 1) := by decide +kernel
theorem dX0_end_79 : decode cX0_end 79 = .ok (.if_icmp .ge 56, 3) := by decide +kernel
theorem dX0_end_82 : decode cX0_end 82 = .ok (.aload_n 0, 1) := by decide +kernel
theorem dX0_end_83 : decode cX0_end 83 = .ok (.getfield 35, 3) := by decide +kernel
theorem dX0_end_86 : decode cX0_end 86 = .ok (.iload_n 2, 1) := by decide +kernel
theorem dX0_end_87 : decode cX0_end 87 = .ok (.bipush 16, 2) := by decide +kernel
theorem dX0_end_89 : decode cX0_end 89 = .ok (.imul, 1) := by decide +kernel
theorem dX0_end_90 : decode cX0_end 90 = .ok (.iload 4, 2) := by decide +kernel
theorem dX0_end_92 : decode cX0_end 92 = .ok (.iadd, 1) := by decide +kernel
theorem dX0_end_93 : decode cX0_end 93 = .ok (.baload, 1) := by decide +kernel
theorem dX0_end_94 : decode cX0_end 94 = .ok (.istore 5, 2) := by decide +kernel
theorem dX0_end_96 : decode cX0_end 96 = .ok (.aload_n 0, 1) := by decide +kernel
theorem dX0_end_97 : decode cX0_end 97 = .ok (.getfield 29, 3) := by decide +kernel
theorem dX0_end_100 : decode cX0_end 100 = .ok (.iload_n 3, 1) := by decide +kernel
theorem dX0_end_101 : decode cX0_end 101 = .ok (.iaload, 1) := by decide +kernel
theorem dX0_end_102 : decode cX0_end 102 = .ok (.iload 5, 2) := by decide +kernel
theorem dX0_end_104 : decode cX0_end 104 = .ok (.ishr, 1) := by decide +kernel
theorem dX0_end_105 : decode cX0_end 105 = .ok (.iconst 1, 1) := by decide +kernel
theorem dX0_end_106 : decode cX0_end 106 = .ok (.iand, 1) := by decide +kernel
theorem dX0_end_107 : decode cX0_end 107 = .ok (.ifCond .ne 22, 3) := by decide +kernel
theorem dX0_end_110 : decode cX0_end 110 = .ok (.aload_n 0, 1) := by decide +kernel
theorem dX0_end_111 : decode cX0_end 111 = .ok (.iload_n 3, 1) := by decide +kernel
theorem dX0_end_112 : decode cX0_end 112 = .ok (.iload 5, 2) := by decide +kernel
theorem dX0_end_114 : decode cX0_end 114 = .ok (.aload_n 0, 1) := by decide +kernel
theorem dX0_end_115 : decode cX0_end 115 = .ok (.getfield 38, 3) := by decide +kernel
theorem dX0_end_118 : decode cX0_end 118 = .ok (.iload_n 2, 1) := by decide +kernel
theorem dX0_end_119 : decode cX0_end 119 = .ok (.bipush 16, 2) := by decide +kernel
theorem dX0_end_121 : decode cX0_end 121 = .ok (.imul, 1) := by decide +kernel
theorem dX0_end_122 : decode cX0_end 122 = .ok (.iload 4, 2) := by decide +kernel
theorem dX0_end_124 : decode cX0_end 124 = .ok (.iadd, 1) := by decide +kernel
theorem dX0_end_125 : decode cX0_end 125 = .ok (.iaload, 1) := by decide +kernel
theorem dX0_end_126 : decode cX0_end 126 = .ok (.invokevirtual 73, 3) := by decide +kernel
theorem dX0_end_129 : decode cX0_end 129 = .ok (.iinc 4 1, 3) := by decide +kernel
theorem dX0_end_132 : decode cX0_end 132 = .ok (.goto (-61), 3) := by decide +kernel
theorem dX0_end_135 : decode cX0_end 135 = .ok (.aload_n 0, 1) := by decide +kernel
theorem dX0_end_136 : decode cX0_end 136 = .ok (.getfield 23, 3) := by decide +kernel
theorem dX0_end_139 : decode cX0_end 139 = .ok (.iload_n 1, 1) := by decide +kernel
theorem dX0_end_140 : decode cX0_end 140 = .ok (.baload, 1) := by decide +kernel
theorem dX0_end_141 : decode cX0_end 141 = .ok (.ireturn, 1) := by decide +kernel
abbrev cX0_giveUp : ByteArray := prog_1_method_26_code
def yX0_giveUp : MethodName := ⟨RX0, "giveUp", "(I)I"⟩
theorem dX0_giveUp_0 : decode cX0_giveUp 0 = .ok (.iload_n 1, 1) := by decide +kernel
theorem dX0_giveUp_1 : decode cX0_giveUp 1 = .ok (.invokestatic 80, 3) := by decide +kernel
theorem dX0_giveUp_4 : decode cX0_giveUp 4 = .ok (.ifCond .eq 12, 3) := by decide +kernel
theorem dX0_giveUp_7 : decode cX0_giveUp 7 = .ok (.aload_n 0, 1) := by decide +kernel
theorem dX0_giveUp_8 : decode cX0_giveUp 8 = .ok (.getfield 23, 3) := by decide +kernel
theorem dX0_giveUp_11 : decode cX0_giveUp 11 = .ok (.iload_n 1, 1) := by decide +kernel
theorem dX0_giveUp_12 : decode cX0_giveUp 12 = .ok (.baload, 1) := by decide +kernel
theorem dX0_giveUp_13 : decode cX0_giveUp 13 = .ok (.ifCond .ne 5, 3) := by decide +kernel
theorem dX0_giveUp_16 : decode cX0_giveUp 16 = .ok (.iconst (-1), 1) := by decide +kernel
theorem dX0_giveUp_17 : decode cX0_giveUp 17 = .ok (.ireturn, 1) := by decide +kernel
theorem dX0_giveUp_18 : decode cX0_giveUp 18 = .ok (.aload_n 0, 1) := by decide +kernel
theorem dX0_giveUp_19 : decode cX0_giveUp 19 = .ok (.iload_n 1, 1) := by decide +kernel
theorem dX0_giveUp_20 : decode cX0_giveUp 20 = .ok (.invokevirtual 100, 3) := by decide +kernel
theorem dX0_giveUp_23 : decode cX0_giveUp 23 = .ok (.aload_n 0, 1) := by decide +kernel
theorem dX0_giveUp_24 : decode cX0_giveUp 24 = .ok (.getfield 23, 3) := by decide +kernel
theorem dX0_giveUp_27 : decode cX0_giveUp 27 = .ok (.iload_n 1, 1) := by decide +kernel
theorem dX0_giveUp_28 : decode cX0_giveUp 28 = .ok (.baload, 1) := by decide +kernel
theorem dX0_giveUp_29 : decode cX0_giveUp 29 = .ok (.ireturn, 1) := by decide +kernel
abbrev cX0_undo : ByteArray := prog_1_method_21_code
def yX0_undo : MethodName := ⟨RX0, "undo", "(I)V"⟩
theorem dX0_undo_0 : decode cX0_undo 0 = .ok (.iload_n 1, 1) := by decide +kernel
theorem dX0_undo_1 : decode cX0_undo 1 = .ok (.iconst 3, 1) := by decide +kernel
theorem dX0_undo_2 : decode cX0_undo 2 = .ok (.imul, 1) := by decide +kernel
theorem dX0_undo_3 : decode cX0_undo 3 = .ok (.aload_n 0, 1) := by decide +kernel
theorem dX0_undo_4 : decode cX0_undo 4 = .ok (.getfield 23, 3) := by decide +kernel
theorem dX0_undo_7 : decode cX0_undo 7 = .ok (.iload_n 1, 1) := by decide +kernel
theorem dX0_undo_8 : decode cX0_undo 8 = .ok (.baload, 1) := by decide +kernel
theorem dX0_undo_9 : decode cX0_undo 9 = .ok (.iadd, 1) := by decide +kernel
theorem dX0_undo_10 : decode cX0_undo 10 = .ok (.iconst 1, 1) := by decide +kernel
theorem dX0_undo_11 : decode cX0_undo 11 = .ok (.isub, 1) := by decide +kernel
theorem dX0_undo_12 : decode cX0_undo 12 = .ok (.istore_n 2, 1) := by decide +kernel
theorem dX0_undo_13 : decode cX0_undo 13 = .ok (.aload_n 0, 1) := by decide +kernel
theorem dX0_undo_14 : decode cX0_undo 14 = .ok (.getfield 32, 3) := by decide +kernel
theorem dX0_undo_17 : decode cX0_undo 17 = .ok (.iload_n 2, 1) := by decide +kernel
theorem dX0_undo_18 : decode cX0_undo 18 = .ok (.baload, 1) := by decide +kernel
theorem dX0_undo_19 : decode cX0_undo 19 = .ok (.iconst 1, 1) := by decide +kernel
theorem dX0_undo_20 : decode cX0_undo 20 = .ok (.isub, 1) := by decide +kernel
theorem dX0_undo_21 : decode cX0_undo 21 = .ok (.istore_n 3, 1) := by decide +kernel
theorem dX0_undo_22 : decode cX0_undo 22 = .ok (.iload_n 3, 1) := by decide +kernel
theorem dX0_undo_23 : decode cX0_undo 23 = .ok (.ifCond .lt 36, 3) := by decide +kernel
theorem dX0_undo_26 : decode cX0_undo 26 = .ok (.aload_n 0, 1) := by decide +kernel
theorem dX0_undo_27 : decode cX0_undo 27 = .ok (.iload_n 1, 1) := by decide +kernel
theorem dX0_undo_28 : decode cX0_undo 28 = .ok (.aload_n 0, 1) := by decide +kernel
theorem dX0_undo_29 : decode cX0_undo 29 = .ok (.getfield 35, 3) := by decide +kernel
theorem dX0_undo_32 : decode cX0_undo 32 = .ok (.iload_n 2, 1) := by decide +kernel
theorem dX0_undo_33 : decode cX0_undo 33 = .ok (.bipush 16, 2) := by decide +kernel
theorem dX0_undo_35 : decode cX0_undo 35 = .ok (.imul, 1) := by decide +kernel
theorem dX0_undo_36 : decode cX0_undo 36 = .ok (.iload_n 3, 1) := by decide +kernel
theorem dX0_undo_37 : decode cX0_undo 37 = .ok (.iadd, 1) := by decide +kernel
theorem dX0_undo_38 : decode cX0_undo 38 = .ok (.baload, 1) := by decide +kernel
theorem dX0_undo_39 : decode cX0_undo 39 = .ok (.aload_n 0, 1) := by decide +kernel
theorem dX0_undo_40 : decode cX0_undo 40 = .ok (.getfield 38, 3) := by decide +kernel
theorem dX0_undo_43 : decode cX0_undo 43 = .ok (.iload_n 2, 1) := by decide +kernel
theorem dX0_undo_44 : decode cX0_undo 44 = .ok (.bipush 16, 2) := by decide +kernel
theorem dX0_undo_46 : decode cX0_undo 46 = .ok (.imul, 1) := by decide +kernel
theorem dX0_undo_47 : decode cX0_undo 47 = .ok (.iload_n 3, 1) := by decide +kernel
theorem dX0_undo_48 : decode cX0_undo 48 = .ok (.iadd, 1) := by decide +kernel
theorem dX0_undo_49 : decode cX0_undo 49 = .ok (.iaload, 1) := by decide +kernel
theorem dX0_undo_50 : decode cX0_undo 50 = .ok (.invokevirtual 77, 3) := by decide +kernel
theorem dX0_undo_53 : decode cX0_undo 53 = .ok (.iinc 3 (-1), 3) := by decide +kernel
theorem dX0_undo_56 : decode cX0_undo 56 = .ok (.goto (-34), 3) := by decide +kernel
theorem dX0_undo_59 : decode cX0_undo 59 = .ok (.aload_n 0, 1) := by decide +kernel
theorem dX0_undo_60 : decode cX0_undo 60 = .ok (.getfield 23, 3) := by decide +kernel
theorem dX0_undo_63 : decode cX0_undo 63 = .ok (.iload_n 1, 1) := by decide +kernel
theorem dX0_undo_64 : decode cX0_undo 64 = .ok (.dup2, 1) := by decide +kernel
theorem dX0_undo_65 : decode cX0_undo 65 = .ok (.baload, 1) := by decide +kernel
theorem dX0_undo_66 : decode cX0_undo 66 = .ok (.iconst 1, 1) := by decide +kernel
theorem dX0_undo_67 : decode cX0_undo 67 = .ok (.isub, 1) := by decide +kernel
theorem dX0_undo_68 : decode cX0_undo 68 = .ok (.i2b, 1) := by decide +kernel
theorem dX0_undo_69 : decode cX0_undo 69 = .ok (.bastore, 1) := by decide +kernel
theorem dX0_undo_70 : decode cX0_undo 70 = .ok (.return_, 1) := by decide +kernel
abbrev cX0_giveAllUp : ByteArray := prog_1_method_27_code
def yX0_giveAllUp : MethodName := ⟨RX0, "giveAllUp", "(I)I"⟩
theorem dX0_giveAllUp_0 : decode cX0_giveAllUp 0 = .ok (.iload_n 1, 1) := by decide +kernel
theorem dX0_giveAllUp_1 : decode cX0_giveAllUp 1 = .ok (.invokestatic 80, 3) := by decide +kernel
theorem dX0_giveAllUp_4 : decode cX0_giveAllUp 4 = .ok (.ifCond .ne 5, 3) := by decide +kernel
theorem dX0_giveAllUp_7 : decode cX0_giveAllUp 7 = .ok (.iconst (-1), 1) := by decide +kernel
theorem dX0_giveAllUp_8 : decode cX0_giveAllUp 8 = .ok (.ireturn, 1) := by decide +kernel
theorem dX0_giveAllUp_9 : decode cX0_giveAllUp 9 = .ok (.aload_n 0, 1) := by decide +kernel
theorem dX0_giveAllUp_10 : decode cX0_giveAllUp 10 = .ok (.getfield 23, 3) := by decide +kernel
theorem dX0_giveAllUp_13 : decode cX0_giveAllUp 13 = .ok (.iload_n 1, 1) := by decide +kernel
theorem dX0_giveAllUp_14 : decode cX0_giveAllUp 14 = .ok (.baload, 1) := by decide +kernel
theorem dX0_giveAllUp_15 : decode cX0_giveAllUp 15 = .ok (.istore_n 2, 1) := by decide +kernel
theorem dX0_giveAllUp_16 : decode cX0_giveAllUp 16 = .ok (.iconst 0, 1) := by decide +kernel
theorem dX0_giveAllUp_17 : decode cX0_giveAllUp 17 = .ok (.istore_n 3, 1) := by decide +kernel
theorem dX0_giveAllUp_18 : decode cX0_giveAllUp 18 = .ok (.iload_n 3, 1) := by decide +kernel
theorem dX0_giveAllUp_19 : decode cX0_giveAllUp 19 = .ok (.iload_n 2, 1) := by decide +kernel
theorem dX0_giveAllUp_20 : decode cX0_giveAllUp 20 = .ok (.if_icmp .ge 14, 3) := by decide +kernel
theorem dX0_giveAllUp_23 : decode cX0_giveAllUp 23 = .ok (.aload_n 0, 1) := by decide +kernel
theorem dX0_giveAllUp_24 : decode cX0_giveAllUp 24 = .ok (.iload_n 1, 1) := by decide +kernel
theorem dX0_giveAllUp_25 : decode cX0_giveAllUp 25 = .ok (.invokevirtual 100, 3) := by decide +kernel
theorem dX0_giveAllUp_28 : decode cX0_giveAllUp 28 = .ok (.iinc 3 1, 3) := by decide +kernel
theorem dX0_giveAllUp_31 : decode cX0_giveAllUp 31 = .ok (.goto (-13), 3) := by decide +kernel
theorem dX0_giveAllUp_34 : decode cX0_giveAllUp 34 = .ok (.iload_n 2, 1) := by decide +kernel
theorem dX0_giveAllUp_35 : decode cX0_giveAllUp 35 = .ok (.ireturn, 1) := by decide +kernel
abbrev cX0_level : ByteArray := prog_1_method_28_code
def yX0_level : MethodName := ⟨RX0, "level", "(I)I"⟩
theorem dX0_level_0 : decode cX0_level 0 = .ok (.iload_n 1, 1) := by decide +kernel
theorem dX0_level_1 : decode cX0_level 1 = .ok (.invokestatic 80, 3) := by decide +kernel
theorem dX0_level_4 : decode cX0_level 4 = .ok (.ifCond .eq 12, 3) := by decide +kernel
theorem dX0_level_7 : decode cX0_level 7 = .ok (.aload_n 0, 1) := by decide +kernel
theorem dX0_level_8 : decode cX0_level 8 = .ok (.getfield 23, 3) := by decide +kernel
theorem dX0_level_11 : decode cX0_level 11 = .ok (.iload_n 1, 1) := by decide +kernel
theorem dX0_level_12 : decode cX0_level 12 = .ok (.baload, 1) := by decide +kernel
theorem dX0_level_13 : decode cX0_level 13 = .ok (.goto 4, 3) := by decide +kernel
theorem dX0_level_16 : decode cX0_level 16 = .ok (.iconst (-1), 1) := by decide +kernel
theorem dX0_level_17 : decode cX0_level 17 = .ok (.ireturn, 1) := by decide +kernel
abbrev cX0_committed : ByteArray := prog_1_method_29_code
def yX0_committed : MethodName := ⟨RX0, "committed", "(I)I"⟩
theorem dX0_committed_0 : decode cX0_committed 0 = .ok (.iload_n 1, 1) := by decide +kernel
theorem dX0_committed_1 : decode cX0_committed 1 = .ok (.invokestatic 84, 3) := by decide +kernel
theorem dX0_committed_4 : decode cX0_committed 4 = .ok (.ifCond .eq 11, 3) := by decide +kernel
theorem dX0_committed_7 : decode cX0_committed 7 = .ok (.aload_n 0, 1) := by decide +kernel
theorem dX0_committed_8 : decode cX0_committed 8 = .ok (.iload_n 1, 1) := by decide +kernel
theorem dX0_committed_9 : decode cX0_committed 9 = .ok (.invokevirtual 94, 3) := by decide +kernel
theorem dX0_committed_12 : decode cX0_committed 12 = .ok (.goto 4, 3) := by decide +kernel
theorem dX0_committed_15 : decode cX0_committed 15 = .ok (.iconst 0, 1) := by decide +kernel
theorem dX0_committed_16 : decode cX0_committed 16 = .ok (.ireturn, 1) := by decide +kernel
abbrev cX0_readBy : ByteArray := prog_1_method_30_code
def yX0_readBy : MethodName := ⟨RX0, "readBy", "(I)I"⟩
theorem dX0_readBy_0 : decode cX0_readBy 0 = .ok (.iload_n 1, 1) := by decide +kernel
theorem dX0_readBy_1 : decode cX0_readBy 1 = .ok (.invokestatic 80, 3) := by decide +kernel
theorem dX0_readBy_4 : decode cX0_readBy 4 = .ok (.ifCond .eq 11, 3) := by decide +kernel
theorem dX0_readBy_7 : decode cX0_readBy 7 = .ok (.aload_n 0, 1) := by decide +kernel
theorem dX0_readBy_8 : decode cX0_readBy 8 = .ok (.iload_n 1, 1) := by decide +kernel
theorem dX0_readBy_9 : decode cX0_readBy 9 = .ok (.invokevirtual 61, 3) := by decide +kernel
theorem dX0_readBy_12 : decode cX0_readBy 12 = .ok (.goto 4, 3) := by decide +kernel
theorem dX0_readBy_15 : decode cX0_readBy 15 = .ok (.iconst 0, 1) := by decide +kernel
theorem dX0_readBy_16 : decode cX0_readBy 16 = .ok (.ireturn, 1) := by decide +kernel
abbrev cX0_writtenBy : ByteArray := prog_1_method_31_code
def yX0_writtenBy : MethodName := ⟨RX0, "writtenBy", "(I)I"⟩
theorem dX0_writtenBy_0 : decode cX0_writtenBy 0 = .ok (.iload_n 1, 1) := by decide +kernel
theorem dX0_writtenBy_1 : decode cX0_writtenBy 1 = .ok (.invokestatic 80, 3) := by decide +kernel
theorem dX0_writtenBy_4 : decode cX0_writtenBy 4 = .ok (.ifCond .eq 11, 3) := by decide +kernel
theorem dX0_writtenBy_7 : decode cX0_writtenBy 7 = .ok (.aload_n 0, 1) := by decide +kernel
theorem dX0_writtenBy_8 : decode cX0_writtenBy 8 = .ok (.iload_n 1, 1) := by decide +kernel
theorem dX0_writtenBy_9 : decode cX0_writtenBy 9 = .ok (.invokevirtual 57, 3) := by decide +kernel
theorem dX0_writtenBy_12 : decode cX0_writtenBy 12 = .ok (.goto 4, 3) := by decide +kernel
theorem dX0_writtenBy_15 : decode cX0_writtenBy 15 = .ok (.iconst 0, 1) := by decide +kernel
theorem dX0_writtenBy_16 : decode cX0_writtenBy 16 = .ok (.ireturn, 1) := by decide +kernel
abbrev cX0_rivals : ByteArray := prog_1_method_32_code
def yX0_rivals : MethodName := ⟨RX0, "rivals", "(III)I"⟩
theorem dX0_rivals_0 : decode cX0_rivals 0 = .ok (.iload_n 1, 1) := by decide +kernel
theorem dX0_rivals_1 : decode cX0_rivals 1 = .ok (.invokestatic 80, 3) := by decide +kernel
theorem dX0_rivals_4 : decode cX0_rivals 4 = .ok (.ifCond .eq 38, 3) := by decide +kernel
theorem dX0_rivals_7 : decode cX0_rivals 7 = .ok (.iload_n 2, 1) := by decide +kernel
theorem dX0_rivals_8 : decode cX0_rivals 8 = .ok (.invokestatic 84, 3) := by decide +kernel
theorem dX0_rivals_11 : decode cX0_rivals 11 = .ok (.ifCond .eq 31, 3) := by decide +kernel
theorem dX0_rivals_14 : decode cX0_rivals 14 = .ok (.iload_n 3, 1) := by decide +kernel
theorem dX0_rivals_15 : decode cX0_rivals 15 = .ok (.ifCond .eq 8, 3) := by decide +kernel
theorem dX0_rivals_18 : decode cX0_rivals 18 = .ok (.iload_n 3, 1) := by decide +kernel
theorem dX0_rivals_19 : decode cX0_rivals 19 = .ok (.iconst 1, 1) := by decide +kernel
theorem dX0_rivals_20 : decode cX0_rivals 20 = .ok (.if_icmp .ne 22, 3) := by decide +kernel
theorem dX0_rivals_23 : decode cX0_rivals 23 = .ok (.aload_n 0, 1) := by decide +kernel
theorem dX0_rivals_24 : decode cX0_rivals 24 = .ok (.iload_n 1, 1) := by decide +kernel
theorem dX0_rivals_25 : decode cX0_rivals 25 = .ok (.iload_n 2, 1) := by decide +kernel
theorem dX0_rivals_26 : decode cX0_rivals 26 = .ok (.iload_n 3, 1) := by decide +kernel
theorem dX0_rivals_27 : decode cX0_rivals 27 = .ok (.iconst 1, 1) := by decide +kernel
theorem dX0_rivals_28 : decode cX0_rivals 28 = .ok (.if_icmp .ne 7, 3) := by decide +kernel
theorem dX0_rivals_31 : decode cX0_rivals 31 = .ok (.iconst 1, 1) := by decide +kernel
theorem dX0_rivals_32 : decode cX0_rivals 32 = .ok (.goto 4, 3) := by decide +kernel
theorem dX0_rivals_35 : decode cX0_rivals 35 = .ok (.iconst 0, 1) := by decide +kernel
theorem dX0_rivals_36 : decode cX0_rivals 36 = .ok (.invokevirtual 87, 3) := by decide +kernel
theorem dX0_rivals_39 : decode cX0_rivals 39 = .ok (.goto 4, 3) := by decide +kernel
theorem dX0_rivals_42 : decode cX0_rivals 42 = .ok (.iconst 0, 1) := by decide +kernel
theorem dX0_rivals_43 : decode cX0_rivals 43 = .ok (.ireturn, 1) := by decide +kernel
abbrev cX0_digest : ByteArray := prog_1_method_33_code
def yX0_digest : MethodName := ⟨RX0, "digest", "()I"⟩
theorem dX0_digest_0 : decode cX0_digest 0 = .ok (.iconst 0, 1) := by decide +kernel
theorem dX0_digest_1 : decode cX0_digest 1 = .ok (.istore_n 1, 1) := by decide +kernel
theorem dX0_digest_2 : decode cX0_digest 2 = .ok (.iconst 0, 1) := by decide +kernel
theorem dX0_digest_3 : decode cX0_digest 3 = .ok (.istore_n 2, 1) := by decide +kernel
theorem dX0_digest_4 : decode cX0_digest 4 = .ok (.iload_n 2, 1) := by decide +kernel
theorem dX0_digest_5 : decode cX0_digest 5 = .ok (.bipush 16, 2) := by decide +kernel
theorem dX0_digest_7 : decode cX0_digest 7 = .ok (.if_icmp .ge 23, 3) := by decide +kernel
theorem dX0_digest_10 : decode cX0_digest 10 = .ok (.aload_n 0, 1) := by decide +kernel
theorem dX0_digest_11 : decode cX0_digest 11 = .ok (.iload_n 2, 1) := by decide +kernel
theorem dX0_digest_12 : decode cX0_digest 12 = .ok (.invokevirtual 94, 3) := by decide +kernel
theorem dX0_digest_15 : decode cX0_digest 15 = .ok (.istore_n 3, 1) := by decide +kernel
theorem dX0_digest_16 : decode cX0_digest 16 = .ok (.iload_n 1, 1) := by decide +kernel
theorem dX0_digest_17 : decode cX0_digest 17 = .ok (.iload_n 2, 1) := by decide +kernel
theorem dX0_digest_18 : decode cX0_digest 18 = .ok (.iconst 1, 1) := by decide +kernel
theorem dX0_digest_19 : decode cX0_digest 19 = .ok (.iadd, 1) := by decide +kernel
theorem dX0_digest_20 : decode cX0_digest 20 = .ok (.iload_n 3, 1) := by decide +kernel
theorem dX0_digest_21 : decode cX0_digest 21 = .ok (.imul, 1) := by decide +kernel
theorem dX0_digest_22 : decode cX0_digest 22 = .ok (.iadd, 1) := by decide +kernel
theorem dX0_digest_23 : decode cX0_digest 23 = .ok (.istore_n 1, 1) := by decide +kernel
theorem dX0_digest_24 : decode cX0_digest 24 = .ok (.iinc 2 1, 3) := by decide +kernel
theorem dX0_digest_27 : decode cX0_digest 27 = .ok (.goto (-23), 3) := by decide +kernel
theorem dX0_digest_30 : decode cX0_digest 30 = .ok (.iload_n 1, 1) := by decide +kernel
theorem dX0_digest_31 : decode cX0_digest 31 = .ok (.ireturn, 1) := by decide +kernel
end
section
set_option maxRecDepth 100000
theorem q22 : (Jvm.Cond.initialized "TransactionCaches") ∈ lw_all := lw_g (lw_at lw_m1 1 rfl) rfl
theorem q25 : (Jvm.Cond.instantiable "TransactionCaches" (10 : Nat)) ∈ lw_all := lw_g (lw_at lw_m1 4 rfl) rfl
theorem q27 : (Jvm.Cond.instanceMethod ({ cls := "TransactionCaches", name := "<init>", desc := "()V" } : Jvm.MethodName)) ∈ lw_all := lw_g (lw_at lw_m1 6 rfl) rfl
theorem q28 : (Jvm.Cond.code ({ cls := "TransactionCaches", name := "<init>", desc := "()V" } : Jvm.MethodName) prog_1_method_1_code (1 : Nat) (Option.none : Option Jvm.ClassFile.FieldType)) ∈ lw_all := lw_g (lw_at lw_m1 7 rfl) rfl
theorem q29 : (Jvm.Cond.methodLink "TransactionCaches" (1 : Nat) ({ cls := "java/lang/Object", name := "<init>", desc := "()V" } : Jvm.MethodName)) ∈ lw_all := lw_g (lw_at lw_m1 8 rfl) rfl
theorem q32 : (Jvm.Cond.fieldLink "TransactionCaches" (7 : Nat) "TransactionCaches" "memory" "[I") ∈ lw_all := lw_g (lw_at lw_m1 11 rfl) rfl
theorem q33 : (Jvm.Cond.fieldLink "TransactionCaches" (13 : Nat) "TransactionCaches" "tags" "[B") ∈ lw_all := lw_g (lw_at lw_m1 12 rfl) rfl
theorem q34 : (Jvm.Cond.fieldLink "TransactionCaches" (17 : Nat) "TransactionCaches" "states" "[B") ∈ lw_all := lw_g (lw_at lw_m1 13 rfl) rfl
theorem q35 : (Jvm.Cond.fieldLink "TransactionCaches" (20 : Nat) "TransactionCaches" "data" "[I") ∈ lw_all := lw_g (lw_at lw_m1 14 rfl) rfl
theorem q36 : (Jvm.Cond.fieldLink "TransactionCaches" (23 : Nat) "TransactionCaches" "levels" "[B") ∈ lw_all := lw_g (lw_at lw_m1 15 rfl) rfl
theorem q37 : (Jvm.Cond.fieldLink "TransactionCaches" (26 : Nat) "TransactionCaches" "readAt" "[I") ∈ lw_all := lw_g (lw_at lw_m1 16 rfl) rfl
theorem q38 : (Jvm.Cond.fieldLink "TransactionCaches" (29 : Nat) "TransactionCaches" "writtenAt" "[I") ∈ lw_all := lw_g (lw_at lw_m1 17 rfl) rfl
theorem q39 : (Jvm.Cond.fieldLink "TransactionCaches" (32 : Nat) "TransactionCaches" "logSize" "[B") ∈ lw_all := lw_g (lw_at lw_m1 18 rfl) rfl
theorem q40 : (Jvm.Cond.fieldLink "TransactionCaches" (35 : Nat) "TransactionCaches" "logCell" "[B") ∈ lw_all := lw_g (lw_at lw_m1 19 rfl) rfl
theorem q41 : (Jvm.Cond.fieldLink "TransactionCaches" (38 : Nat) "TransactionCaches" "logOld" "[I") ∈ lw_all := lw_g (lw_at lw_m1 20 rfl) rfl
theorem q42 : (Jvm.Cond.laysFinal "TransactionCaches" "TransactionCaches" "memory" "[I") ∈ lw_all := lw_g (lw_at lw_m1 21 rfl) rfl
theorem q43 : (Jvm.Cond.soleField "TransactionCaches" "memory") ∈ lw_all := lw_g (lw_at lw_m1 22 rfl) rfl
theorem q44 : (Jvm.Cond.laysFinal "TransactionCaches" "TransactionCaches" "tags" "[B") ∈ lw_all := lw_g (lw_at lw_m1 23 rfl) rfl
theorem q45 : (Jvm.Cond.soleField "TransactionCaches" "tags") ∈ lw_all := lw_g (lw_at lw_m1 24 rfl) rfl
theorem q46 : (Jvm.Cond.laysFinal "TransactionCaches" "TransactionCaches" "states" "[B") ∈ lw_all := lw_g (lw_at lw_m1 25 rfl) rfl
theorem q47 : (Jvm.Cond.soleField "TransactionCaches" "states") ∈ lw_all := lw_g (lw_at lw_m1 26 rfl) rfl
theorem q48 : (Jvm.Cond.laysFinal "TransactionCaches" "TransactionCaches" "data" "[I") ∈ lw_all := lw_g (lw_at lw_m1 27 rfl) rfl
theorem q49 : (Jvm.Cond.soleField "TransactionCaches" "data") ∈ lw_all := lw_g (lw_at lw_m1 28 rfl) rfl
theorem q50 : (Jvm.Cond.laysFinal "TransactionCaches" "TransactionCaches" "levels" "[B") ∈ lw_all := lw_g (lw_at lw_m1 29 rfl) rfl
theorem q51 : (Jvm.Cond.soleField "TransactionCaches" "levels") ∈ lw_all := lw_g (lw_at lw_m1 30 rfl) rfl
theorem q52 : (Jvm.Cond.laysFinal "TransactionCaches" "TransactionCaches" "readAt" "[I") ∈ lw_all := lw_g (lw_at lw_m1 31 rfl) rfl
theorem q53 : (Jvm.Cond.soleField "TransactionCaches" "readAt") ∈ lw_all := lw_g (lw_at lw_m1 32 rfl) rfl
theorem q54 : (Jvm.Cond.laysFinal "TransactionCaches" "TransactionCaches" "writtenAt" "[I") ∈ lw_all := lw_g (lw_at lw_m1 33 rfl) rfl
theorem q55 : (Jvm.Cond.soleField "TransactionCaches" "writtenAt") ∈ lw_all := lw_g (lw_at lw_m1 34 rfl) rfl
theorem q56 : (Jvm.Cond.laysFinal "TransactionCaches" "TransactionCaches" "logSize" "[B") ∈ lw_all := lw_g (lw_at lw_m1 35 rfl) rfl
theorem q57 : (Jvm.Cond.soleField "TransactionCaches" "logSize") ∈ lw_all := lw_g (lw_at lw_m1 36 rfl) rfl
theorem q58 : (Jvm.Cond.laysFinal "TransactionCaches" "TransactionCaches" "logCell" "[B") ∈ lw_all := lw_g (lw_at lw_m1 37 rfl) rfl
theorem q59 : (Jvm.Cond.soleField "TransactionCaches" "logCell") ∈ lw_all := lw_g (lw_at lw_m1 38 rfl) rfl
theorem q60 : (Jvm.Cond.laysFinal "TransactionCaches" "TransactionCaches" "logOld" "[I") ∈ lw_all := lw_g (lw_at lw_m1 39 rfl) rfl
theorem q61 : (Jvm.Cond.soleField "TransactionCaches" "logOld") ∈ lw_all := lw_g (lw_at lw_m1 40 rfl) rfl
theorem q62 : (Jvm.Cond.superclass "TransactionCaches" "java/lang/Object") ∈ lw_all := lw_g (lw_at lw_m1 41 rfl) rfl
theorem q66 : (Jvm.Cond.instanceMethod ({ cls := "TransactionCaches", name := "begin", desc := "(I)I" } : Jvm.MethodName)) ∈ lw_all := lw_g (lw_at lw_m1 45 rfl) rfl
theorem q67 : (Jvm.Cond.selects "TransactionCaches" ({ cls := "TransactionCaches", name := "begin", desc := "(I)I" } : Jvm.MethodName) ({ cls := "TransactionCaches", name := "begin", desc := "(I)I" } : Jvm.MethodName)) ∈ lw_all := lw_g (lw_at lw_m1 46 rfl) rfl
theorem q68 : (Jvm.Cond.code ({ cls := "TransactionCaches", name := "begin", desc := "(I)I" } : Jvm.MethodName) prog_1_method_19_code (3 : Nat) (Option.some Jvm.ClassFile.FieldType.int)) ∈ lw_all := lw_g (lw_at lw_m1 47 rfl) rfl
theorem q69 : (Jvm.Cond.methodLink "TransactionCaches" (80 : Nat) ({ cls := "TransactionCaches", name := "isCore", desc := "(I)Z" } : Jvm.MethodName)) ∈ lw_all := lw_g (lw_at lw_m1 48 rfl) rfl
theorem q70 : (Jvm.Cond.static ({ cls := "TransactionCaches", name := "isCore", desc := "(I)Z" } : Jvm.MethodName)) ∈ lw_all := lw_g (lw_at lw_m1 49 rfl) rfl
theorem q71 : (Jvm.Cond.code ({ cls := "TransactionCaches", name := "isCore", desc := "(I)Z" } : Jvm.MethodName) prog_1_method_2_code (1 : Nat) (Option.some Jvm.ClassFile.FieldType.boolean)) ∈ lw_all := lw_g (lw_at lw_m1 50 rfl) rfl
theorem q73 : (Jvm.Cond.instanceMethod ({ cls := "TransactionCaches", name := "read", desc := "(II)I" } : Jvm.MethodName)) ∈ lw_all := lw_g (lw_at lw_m1 52 rfl) rfl
theorem q74 : (Jvm.Cond.selects "TransactionCaches" ({ cls := "TransactionCaches", name := "read", desc := "(II)I" } : Jvm.MethodName) ({ cls := "TransactionCaches", name := "read", desc := "(II)I" } : Jvm.MethodName)) ∈ lw_all := lw_g (lw_at lw_m1 53 rfl) rfl
theorem q75 : (Jvm.Cond.code ({ cls := "TransactionCaches", name := "read", desc := "(II)I" } : Jvm.MethodName) prog_1_method_20_code (3 : Nat) (Option.some Jvm.ClassFile.FieldType.int)) ∈ lw_all := lw_g (lw_at lw_m1 54 rfl) rfl
theorem q76 : (Jvm.Cond.methodLink "TransactionCaches" (84 : Nat) ({ cls := "TransactionCaches", name := "isCell", desc := "(I)Z" } : Jvm.MethodName)) ∈ lw_all := lw_g (lw_at lw_m1 55 rfl) rfl
theorem q77 : (Jvm.Cond.static ({ cls := "TransactionCaches", name := "isCell", desc := "(I)Z" } : Jvm.MethodName)) ∈ lw_all := lw_g (lw_at lw_m1 56 rfl) rfl
theorem q78 : (Jvm.Cond.code ({ cls := "TransactionCaches", name := "isCell", desc := "(I)Z" } : Jvm.MethodName) prog_1_method_3_code (1 : Nat) (Option.some Jvm.ClassFile.FieldType.boolean)) ∈ lw_all := lw_g (lw_at lw_m1 57 rfl) rfl
theorem q79 : (Jvm.Cond.methodLink "TransactionCaches" (87 : Nat) ({ cls := "TransactionCaches", name := "rivalsOf", desc := "(IIZ)I" } : Jvm.MethodName)) ∈ lw_all := lw_g (lw_at lw_m1 58 rfl) rfl
theorem q80 : (Jvm.Cond.privateMethod ({ cls := "TransactionCaches", name := "rivalsOf", desc := "(IIZ)I" } : Jvm.MethodName)) ∈ lw_tbl := lw_at lw_m1 59 rfl
theorem q81 : (Jvm.Cond.instanceMethod ({ cls := "TransactionCaches", name := "rivalsOf", desc := "(IIZ)I" } : Jvm.MethodName)) ∈ lw_all := lw_g (lw_at lw_m1 60 rfl) rfl
theorem q82 : (Jvm.Cond.code ({ cls := "TransactionCaches", name := "rivalsOf", desc := "(IIZ)I" } : Jvm.MethodName) prog_1_method_12_code (7 : Nat) (Option.some Jvm.ClassFile.FieldType.int)) ∈ lw_all := lw_g (lw_at lw_m1 61 rfl) rfl
theorem q83 : (Jvm.Cond.methodLink "TransactionCaches" (57 : Nat) ({ cls := "TransactionCaches", name := "writtenSet", desc := "(I)I" } : Jvm.MethodName)) ∈ lw_all := lw_g (lw_at lw_m1 62 rfl) rfl
theorem q84 : (Jvm.Cond.privateMethod ({ cls := "TransactionCaches", name := "writtenSet", desc := "(I)I" } : Jvm.MethodName)) ∈ lw_tbl := lw_at lw_m1 63 rfl
theorem q85 : (Jvm.Cond.instanceMethod ({ cls := "TransactionCaches", name := "writtenSet", desc := "(I)I" } : Jvm.MethodName)) ∈ lw_all := lw_g (lw_at lw_m1 64 rfl) rfl
theorem q86 : (Jvm.Cond.code ({ cls := "TransactionCaches", name := "writtenSet", desc := "(I)I" } : Jvm.MethodName) prog_1_method_11_code (4 : Nat) (Option.some Jvm.ClassFile.FieldType.int)) ∈ lw_all := lw_g (lw_at lw_m1 65 rfl) rfl
theorem q87 : (Jvm.Cond.methodLink "TransactionCaches" (61 : Nat) ({ cls := "TransactionCaches", name := "readSet", desc := "(I)I" } : Jvm.MethodName)) ∈ lw_all := lw_g (lw_at lw_m1 66 rfl) rfl
theorem q88 : (Jvm.Cond.privateMethod ({ cls := "TransactionCaches", name := "readSet", desc := "(I)I" } : Jvm.MethodName)) ∈ lw_tbl := lw_at lw_m1 67 rfl
theorem q89 : (Jvm.Cond.instanceMethod ({ cls := "TransactionCaches", name := "readSet", desc := "(I)I" } : Jvm.MethodName)) ∈ lw_all := lw_g (lw_at lw_m1 68 rfl) rfl
theorem q90 : (Jvm.Cond.code ({ cls := "TransactionCaches", name := "readSet", desc := "(I)I" } : Jvm.MethodName) prog_1_method_10_code (4 : Nat) (Option.some Jvm.ClassFile.FieldType.int)) ∈ lw_all := lw_g (lw_at lw_m1 69 rfl) rfl
theorem q91 : (Jvm.Cond.methodLink "TransactionCaches" (53 : Nat) ({ cls := "TransactionCaches", name := "fetch", desc := "(II)V" } : Jvm.MethodName)) ∈ lw_all := lw_g (lw_at lw_m1 70 rfl) rfl
theorem q92 : (Jvm.Cond.privateMethod ({ cls := "TransactionCaches", name := "fetch", desc := "(II)V" } : Jvm.MethodName)) ∈ lw_tbl := lw_at lw_m1 71 rfl
theorem q93 : (Jvm.Cond.instanceMethod ({ cls := "TransactionCaches", name := "fetch", desc := "(II)V" } : Jvm.MethodName)) ∈ lw_all := lw_g (lw_at lw_m1 72 rfl) rfl
theorem q94 : (Jvm.Cond.code ({ cls := "TransactionCaches", name := "fetch", desc := "(II)V" } : Jvm.MethodName) prog_1_method_8_code (7 : Nat) (Option.none : Option Jvm.ClassFile.FieldType)) ∈ lw_all := lw_g (lw_at lw_m1 73 rfl) rfl
theorem q95 : (Jvm.Cond.methodLink "TransactionCaches" (45 : Nat) ({ cls := "TransactionCaches", name := "holds", desc := "(II)Z" } : Jvm.MethodName)) ∈ lw_all := lw_g (lw_at lw_m1 74 rfl) rfl
theorem q96 : (Jvm.Cond.privateMethod ({ cls := "TransactionCaches", name := "holds", desc := "(II)Z" } : Jvm.MethodName)) ∈ lw_tbl := lw_at lw_m1 75 rfl
theorem q97 : (Jvm.Cond.instanceMethod ({ cls := "TransactionCaches", name := "holds", desc := "(II)Z" } : Jvm.MethodName)) ∈ lw_all := lw_g (lw_at lw_m1 76 rfl) rfl
theorem q98 : (Jvm.Cond.code ({ cls := "TransactionCaches", name := "holds", desc := "(II)Z" } : Jvm.MethodName) prog_1_method_5_code (4 : Nat) (Option.some Jvm.ClassFile.FieldType.boolean)) ∈ lw_all := lw_g (lw_at lw_m1 77 rfl) rfl
theorem q99 : (Jvm.Cond.methodLink "TransactionCaches" (41 : Nat) ({ cls := "TransactionCaches", name := "lineOf", desc := "(II)I" } : Jvm.MethodName)) ∈ lw_all := lw_g (lw_at lw_m1 78 rfl) rfl
theorem q100 : (Jvm.Cond.static ({ cls := "TransactionCaches", name := "lineOf", desc := "(II)I" } : Jvm.MethodName)) ∈ lw_all := lw_g (lw_at lw_m1 79 rfl) rfl
theorem q101 : (Jvm.Cond.code ({ cls := "TransactionCaches", name := "lineOf", desc := "(II)I" } : Jvm.MethodName) prog_1_method_4_code (2 : Nat) (Option.some Jvm.ClassFile.FieldType.int)) ∈ lw_all := lw_g (lw_at lw_m1 80 rfl) rfl
theorem q102 : (Jvm.Cond.methodLink "TransactionCaches" (49 : Nat) ({ cls := "TransactionCaches", name := "writeBack", desc := "(I)V" } : Jvm.MethodName)) ∈ lw_all := lw_g (lw_at lw_m1 81 rfl) rfl
theorem q103 : (Jvm.Cond.privateMethod ({ cls := "TransactionCaches", name := "writeBack", desc := "(I)V" } : Jvm.MethodName)) ∈ lw_tbl := lw_at lw_m1 82 rfl
theorem q104 : (Jvm.Cond.instanceMethod ({ cls := "TransactionCaches", name := "writeBack", desc := "(I)V" } : Jvm.MethodName)) ∈ lw_all := lw_g (lw_at lw_m1 83 rfl) rfl
theorem q105 : (Jvm.Cond.code ({ cls := "TransactionCaches", name := "writeBack", desc := "(I)V" } : Jvm.MethodName) prog_1_method_7_code (2 : Nat) (Option.none : Option Jvm.ClassFile.FieldType)) ∈ lw_all := lw_g (lw_at lw_m1 84 rfl) rfl
theorem q106 : (Jvm.Cond.methodLink "TransactionCaches" (91 : Nat) ({ cls := "TransactionCaches", name := "noteRead", desc := "(II)V" } : Jvm.MethodName)) ∈ lw_all := lw_g (lw_at lw_m1 85 rfl) rfl
theorem q107 : (Jvm.Cond.privateMethod ({ cls := "TransactionCaches", name := "noteRead", desc := "(II)V" } : Jvm.MethodName)) ∈ lw_tbl := lw_at lw_m1 86 rfl
theorem q108 : (Jvm.Cond.instanceMethod ({ cls := "TransactionCaches", name := "noteRead", desc := "(II)V" } : Jvm.MethodName)) ∈ lw_all := lw_g (lw_at lw_m1 87 rfl) rfl
theorem q109 : (Jvm.Cond.code ({ cls := "TransactionCaches", name := "noteRead", desc := "(II)V" } : Jvm.MethodName) prog_1_method_16_code (3 : Nat) (Option.none : Option Jvm.ClassFile.FieldType)) ∈ lw_all := lw_g (lw_at lw_m1 88 rfl) rfl
theorem q111 : (Jvm.Cond.instanceMethod ({ cls := "TransactionCaches", name := "sees", desc := "(II)I" } : Jvm.MethodName)) ∈ lw_all := lw_g (lw_at lw_m1 90 rfl) rfl
theorem q112 : (Jvm.Cond.selects "TransactionCaches" ({ cls := "TransactionCaches", name := "sees", desc := "(II)I" } : Jvm.MethodName) ({ cls := "TransactionCaches", name := "sees", desc := "(II)I" } : Jvm.MethodName)) ∈ lw_all := lw_g (lw_at lw_m1 91 rfl) rfl
theorem q113 : (Jvm.Cond.code ({ cls := "TransactionCaches", name := "sees", desc := "(II)I" } : Jvm.MethodName) prog_1_method_22_code (3 : Nat) (Option.some Jvm.ClassFile.FieldType.int)) ∈ lw_all := lw_g (lw_at lw_m1 92 rfl) rfl
theorem q114 : (Jvm.Cond.methodLink "TransactionCaches" (67 : Nat) ({ cls := "TransactionCaches", name := "writerOf", desc := "(I)I" } : Jvm.MethodName)) ∈ lw_all := lw_g (lw_at lw_m1 93 rfl) rfl
theorem q115 : (Jvm.Cond.privateMethod ({ cls := "TransactionCaches", name := "writerOf", desc := "(I)I" } : Jvm.MethodName)) ∈ lw_tbl := lw_at lw_m1 94 rfl
theorem q116 : (Jvm.Cond.instanceMethod ({ cls := "TransactionCaches", name := "writerOf", desc := "(I)I" } : Jvm.MethodName)) ∈ lw_all := lw_g (lw_at lw_m1 95 rfl) rfl
theorem q117 : (Jvm.Cond.code ({ cls := "TransactionCaches", name := "writerOf", desc := "(I)I" } : Jvm.MethodName) prog_1_method_14_code (4 : Nat) (Option.some Jvm.ClassFile.FieldType.int)) ∈ lw_all := lw_g (lw_at lw_m1 96 rfl) rfl
theorem q118 : (Jvm.Cond.methodLink "TransactionCaches" (64 : Nat) ({ cls := "TransactionCaches", name := "newest", desc := "(I)I" } : Jvm.MethodName)) ∈ lw_all := lw_g (lw_at lw_m1 97 rfl) rfl
theorem q119 : (Jvm.Cond.privateMethod ({ cls := "TransactionCaches", name := "newest", desc := "(I)I" } : Jvm.MethodName)) ∈ lw_tbl := lw_at lw_m1 98 rfl
theorem q120 : (Jvm.Cond.instanceMethod ({ cls := "TransactionCaches", name := "newest", desc := "(I)I" } : Jvm.MethodName)) ∈ lw_all := lw_g (lw_at lw_m1 99 rfl) rfl
theorem q121 : (Jvm.Cond.code ({ cls := "TransactionCaches", name := "newest", desc := "(I)I" } : Jvm.MethodName) prog_1_method_6_code (4 : Nat) (Option.some Jvm.ClassFile.FieldType.int)) ∈ lw_all := lw_g (lw_at lw_m1 100 rfl) rfl
theorem q122 : (Jvm.Cond.methodLink "TransactionCaches" (94 : Nat) ({ cls := "TransactionCaches", name := "committedIn", desc := "(I)I" } : Jvm.MethodName)) ∈ lw_all := lw_g (lw_at lw_m1 101 rfl) rfl
theorem q123 : (Jvm.Cond.privateMethod ({ cls := "TransactionCaches", name := "committedIn", desc := "(I)I" } : Jvm.MethodName)) ∈ lw_tbl := lw_at lw_m1 102 rfl
theorem q124 : (Jvm.Cond.instanceMethod ({ cls := "TransactionCaches", name := "committedIn", desc := "(I)I" } : Jvm.MethodName)) ∈ lw_all := lw_g (lw_at lw_m1 103 rfl) rfl
theorem q125 : (Jvm.Cond.code ({ cls := "TransactionCaches", name := "committedIn", desc := "(I)I" } : Jvm.MethodName) prog_1_method_15_code (3 : Nat) (Option.some Jvm.ClassFile.FieldType.int)) ∈ lw_all := lw_g (lw_at lw_m1 104 rfl) rfl
theorem q126 : (Jvm.Cond.methodLink "TransactionCaches" (70 : Nat) ({ cls := "TransactionCaches", name := "before", desc := "(II)I" } : Jvm.MethodName)) ∈ lw_all := lw_g (lw_at lw_m1 105 rfl) rfl
theorem q127 : (Jvm.Cond.privateMethod ({ cls := "TransactionCaches", name := "before", desc := "(II)I" } : Jvm.MethodName)) ∈ lw_tbl := lw_at lw_m1 106 rfl
theorem q128 : (Jvm.Cond.instanceMethod ({ cls := "TransactionCaches", name := "before", desc := "(II)I" } : Jvm.MethodName)) ∈ lw_all := lw_g (lw_at lw_m1 107 rfl) rfl
theorem q129 : (Jvm.Cond.code ({ cls := "TransactionCaches", name := "before", desc := "(II)I" } : Jvm.MethodName) prog_1_method_13_code (6 : Nat) (Option.some Jvm.ClassFile.FieldType.int)) ∈ lw_all := lw_g (lw_at lw_m1 108 rfl) rfl
theorem q131 : (Jvm.Cond.instanceMethod ({ cls := "TransactionCaches", name := "write", desc := "(III)I" } : Jvm.MethodName)) ∈ lw_all := lw_g (lw_at lw_m1 110 rfl) rfl
theorem q132 : (Jvm.Cond.selects "TransactionCaches" ({ cls := "TransactionCaches", name := "write", desc := "(III)I" } : Jvm.MethodName) ({ cls := "TransactionCaches", name := "write", desc := "(III)I" } : Jvm.MethodName)) ∈ lw_all := lw_g (lw_at lw_m1 111 rfl) rfl
theorem q133 : (Jvm.Cond.code ({ cls := "TransactionCaches", name := "write", desc := "(III)I" } : Jvm.MethodName) prog_1_method_23_code (4 : Nat) (Option.some Jvm.ClassFile.FieldType.int)) ∈ lw_all := lw_g (lw_at lw_m1 112 rfl) rfl
theorem q134 : (Jvm.Cond.methodLink "TransactionCaches" (97 : Nat) ({ cls := "TransactionCaches", name := "change", desc := "(III)V" } : Jvm.MethodName)) ∈ lw_all := lw_g (lw_at lw_m1 113 rfl) rfl
theorem q135 : (Jvm.Cond.privateMethod ({ cls := "TransactionCaches", name := "change", desc := "(III)V" } : Jvm.MethodName)) ∈ lw_tbl := lw_at lw_m1 114 rfl
theorem q136 : (Jvm.Cond.instanceMethod ({ cls := "TransactionCaches", name := "change", desc := "(III)V" } : Jvm.MethodName)) ∈ lw_all := lw_g (lw_at lw_m1 115 rfl) rfl
theorem q137 : (Jvm.Cond.code ({ cls := "TransactionCaches", name := "change", desc := "(III)V" } : Jvm.MethodName) prog_1_method_18_code (6 : Nat) (Option.none : Option Jvm.ClassFile.FieldType)) ∈ lw_all := lw_g (lw_at lw_m1 116 rfl) rfl
theorem q138 : (Jvm.Cond.methodLink "TransactionCaches" (73 : Nat) ({ cls := "TransactionCaches", name := "log", desc := "(III)V" } : Jvm.MethodName)) ∈ lw_all := lw_g (lw_at lw_m1 117 rfl) rfl
theorem q139 : (Jvm.Cond.privateMethod ({ cls := "TransactionCaches", name := "log", desc := "(III)V" } : Jvm.MethodName)) ∈ lw_tbl := lw_at lw_m1 118 rfl
theorem q140 : (Jvm.Cond.instanceMethod ({ cls := "TransactionCaches", name := "log", desc := "(III)V" } : Jvm.MethodName)) ∈ lw_all := lw_g (lw_at lw_m1 119 rfl) rfl
theorem q141 : (Jvm.Cond.code ({ cls := "TransactionCaches", name := "log", desc := "(III)V" } : Jvm.MethodName) prog_1_method_17_code (4 : Nat) (Option.none : Option Jvm.ClassFile.FieldType)) ∈ lw_all := lw_g (lw_at lw_m1 120 rfl) rfl
theorem q142 : (Jvm.Cond.methodLink "TransactionCaches" (77 : Nat) ({ cls := "TransactionCaches", name := "store", desc := "(III)V" } : Jvm.MethodName)) ∈ lw_all := lw_g (lw_at lw_m1 121 rfl) rfl
theorem q143 : (Jvm.Cond.privateMethod ({ cls := "TransactionCaches", name := "store", desc := "(III)V" } : Jvm.MethodName)) ∈ lw_tbl := lw_at lw_m1 122 rfl
theorem q144 : (Jvm.Cond.instanceMethod ({ cls := "TransactionCaches", name := "store", desc := "(III)V" } : Jvm.MethodName)) ∈ lw_all := lw_g (lw_at lw_m1 123 rfl) rfl
theorem q145 : (Jvm.Cond.code ({ cls := "TransactionCaches", name := "store", desc := "(III)V" } : Jvm.MethodName) prog_1_method_9_code (7 : Nat) (Option.none : Option Jvm.ClassFile.FieldType)) ∈ lw_all := lw_g (lw_at lw_m1 124 rfl) rfl
theorem q147 : (Jvm.Cond.instanceMethod ({ cls := "TransactionCaches", name := "add", desc := "(III)I" } : Jvm.MethodName)) ∈ lw_all := lw_g (lw_at lw_m1 126 rfl) rfl
theorem q148 : (Jvm.Cond.selects "TransactionCaches" ({ cls := "TransactionCaches", name := "add", desc := "(III)I" } : Jvm.MethodName) ({ cls := "TransactionCaches", name := "add", desc := "(III)I" } : Jvm.MethodName)) ∈ lw_all := lw_g (lw_at lw_m1 127 rfl) rfl
theorem q149 : (Jvm.Cond.code ({ cls := "TransactionCaches", name := "add", desc := "(III)I" } : Jvm.MethodName) prog_1_method_24_code (5 : Nat) (Option.some Jvm.ClassFile.FieldType.int)) ∈ lw_all := lw_g (lw_at lw_m1 128 rfl) rfl
theorem q151 : (Jvm.Cond.instanceMethod ({ cls := "TransactionCaches", name := "end", desc := "(I)I" } : Jvm.MethodName)) ∈ lw_all := lw_g (lw_at lw_m1 130 rfl) rfl
theorem q152 : (Jvm.Cond.selects "TransactionCaches" ({ cls := "TransactionCaches", name := "end", desc := "(I)I" } : Jvm.MethodName) ({ cls := "TransactionCaches", name := "end", desc := "(I)I" } : Jvm.MethodName)) ∈ lw_all := lw_g (lw_at lw_m1 131 rfl) rfl
theorem q153 : (Jvm.Cond.code ({ cls := "TransactionCaches", name := "end", desc := "(I)I" } : Jvm.MethodName) prog_1_method_25_code (6 : Nat) (Option.some Jvm.ClassFile.FieldType.int)) ∈ lw_all := lw_g (lw_at lw_m1 132 rfl) rfl
theorem q155 : (Jvm.Cond.instanceMethod ({ cls := "TransactionCaches", name := "giveUp", desc := "(I)I" } : Jvm.MethodName)) ∈ lw_all := lw_g (lw_at lw_m1 134 rfl) rfl
theorem q156 : (Jvm.Cond.selects "TransactionCaches" ({ cls := "TransactionCaches", name := "giveUp", desc := "(I)I" } : Jvm.MethodName) ({ cls := "TransactionCaches", name := "giveUp", desc := "(I)I" } : Jvm.MethodName)) ∈ lw_all := lw_g (lw_at lw_m1 135 rfl) rfl
theorem q157 : (Jvm.Cond.code ({ cls := "TransactionCaches", name := "giveUp", desc := "(I)I" } : Jvm.MethodName) prog_1_method_26_code (2 : Nat) (Option.some Jvm.ClassFile.FieldType.int)) ∈ lw_all := lw_g (lw_at lw_m1 136 rfl) rfl
theorem q158 : (Jvm.Cond.methodLink "TransactionCaches" (100 : Nat) ({ cls := "TransactionCaches", name := "undo", desc := "(I)V" } : Jvm.MethodName)) ∈ lw_all := lw_g (lw_at lw_m1 137 rfl) rfl
theorem q159 : (Jvm.Cond.privateMethod ({ cls := "TransactionCaches", name := "undo", desc := "(I)V" } : Jvm.MethodName)) ∈ lw_tbl := lw_at lw_m1 138 rfl
theorem q160 : (Jvm.Cond.instanceMethod ({ cls := "TransactionCaches", name := "undo", desc := "(I)V" } : Jvm.MethodName)) ∈ lw_all := lw_g (lw_at lw_m1 139 rfl) rfl
theorem q161 : (Jvm.Cond.code ({ cls := "TransactionCaches", name := "undo", desc := "(I)V" } : Jvm.MethodName) prog_1_method_21_code (4 : Nat) (Option.none : Option Jvm.ClassFile.FieldType)) ∈ lw_all := lw_g (lw_at lw_m1 140 rfl) rfl
theorem q163 : (Jvm.Cond.instanceMethod ({ cls := "TransactionCaches", name := "giveAllUp", desc := "(I)I" } : Jvm.MethodName)) ∈ lw_all := lw_g (lw_at lw_m1 142 rfl) rfl
theorem q164 : (Jvm.Cond.selects "TransactionCaches" ({ cls := "TransactionCaches", name := "giveAllUp", desc := "(I)I" } : Jvm.MethodName) ({ cls := "TransactionCaches", name := "giveAllUp", desc := "(I)I" } : Jvm.MethodName)) ∈ lw_all := lw_g (lw_at lw_m1 143 rfl) rfl
theorem q165 : (Jvm.Cond.code ({ cls := "TransactionCaches", name := "giveAllUp", desc := "(I)I" } : Jvm.MethodName) prog_1_method_27_code (4 : Nat) (Option.some Jvm.ClassFile.FieldType.int)) ∈ lw_all := lw_g (lw_at lw_m1 144 rfl) rfl
theorem q167 : (Jvm.Cond.instanceMethod ({ cls := "TransactionCaches", name := "level", desc := "(I)I" } : Jvm.MethodName)) ∈ lw_all := lw_g (lw_at lw_m1 146 rfl) rfl
theorem q168 : (Jvm.Cond.selects "TransactionCaches" ({ cls := "TransactionCaches", name := "level", desc := "(I)I" } : Jvm.MethodName) ({ cls := "TransactionCaches", name := "level", desc := "(I)I" } : Jvm.MethodName)) ∈ lw_all := lw_g (lw_at lw_m1 147 rfl) rfl
theorem q169 : (Jvm.Cond.code ({ cls := "TransactionCaches", name := "level", desc := "(I)I" } : Jvm.MethodName) prog_1_method_28_code (2 : Nat) (Option.some Jvm.ClassFile.FieldType.int)) ∈ lw_all := lw_g (lw_at lw_m1 148 rfl) rfl
theorem q171 : (Jvm.Cond.instanceMethod ({ cls := "TransactionCaches", name := "committed", desc := "(I)I" } : Jvm.MethodName)) ∈ lw_all := lw_g (lw_at lw_m1 150 rfl) rfl
theorem q172 : (Jvm.Cond.selects "TransactionCaches" ({ cls := "TransactionCaches", name := "committed", desc := "(I)I" } : Jvm.MethodName) ({ cls := "TransactionCaches", name := "committed", desc := "(I)I" } : Jvm.MethodName)) ∈ lw_all := lw_g (lw_at lw_m1 151 rfl) rfl
theorem q173 : (Jvm.Cond.code ({ cls := "TransactionCaches", name := "committed", desc := "(I)I" } : Jvm.MethodName) prog_1_method_29_code (2 : Nat) (Option.some Jvm.ClassFile.FieldType.int)) ∈ lw_all := lw_g (lw_at lw_m1 152 rfl) rfl
theorem q175 : (Jvm.Cond.instanceMethod ({ cls := "TransactionCaches", name := "readBy", desc := "(I)I" } : Jvm.MethodName)) ∈ lw_all := lw_g (lw_at lw_m1 154 rfl) rfl
theorem q176 : (Jvm.Cond.selects "TransactionCaches" ({ cls := "TransactionCaches", name := "readBy", desc := "(I)I" } : Jvm.MethodName) ({ cls := "TransactionCaches", name := "readBy", desc := "(I)I" } : Jvm.MethodName)) ∈ lw_all := lw_g (lw_at lw_m1 155 rfl) rfl
theorem q177 : (Jvm.Cond.code ({ cls := "TransactionCaches", name := "readBy", desc := "(I)I" } : Jvm.MethodName) prog_1_method_30_code (2 : Nat) (Option.some Jvm.ClassFile.FieldType.int)) ∈ lw_all := lw_g (lw_at lw_m1 156 rfl) rfl
theorem q179 : (Jvm.Cond.instanceMethod ({ cls := "TransactionCaches", name := "writtenBy", desc := "(I)I" } : Jvm.MethodName)) ∈ lw_all := lw_g (lw_at lw_m1 158 rfl) rfl
theorem q180 : (Jvm.Cond.selects "TransactionCaches" ({ cls := "TransactionCaches", name := "writtenBy", desc := "(I)I" } : Jvm.MethodName) ({ cls := "TransactionCaches", name := "writtenBy", desc := "(I)I" } : Jvm.MethodName)) ∈ lw_all := lw_g (lw_at lw_m1 159 rfl) rfl
theorem q181 : (Jvm.Cond.code ({ cls := "TransactionCaches", name := "writtenBy", desc := "(I)I" } : Jvm.MethodName) prog_1_method_31_code (2 : Nat) (Option.some Jvm.ClassFile.FieldType.int)) ∈ lw_all := lw_g (lw_at lw_m1 160 rfl) rfl
theorem q183 : (Jvm.Cond.instanceMethod ({ cls := "TransactionCaches", name := "rivals", desc := "(III)I" } : Jvm.MethodName)) ∈ lw_all := lw_g (lw_at lw_m1 162 rfl) rfl
theorem q184 : (Jvm.Cond.selects "TransactionCaches" ({ cls := "TransactionCaches", name := "rivals", desc := "(III)I" } : Jvm.MethodName) ({ cls := "TransactionCaches", name := "rivals", desc := "(III)I" } : Jvm.MethodName)) ∈ lw_all := lw_g (lw_at lw_m1 163 rfl) rfl
theorem q185 : (Jvm.Cond.code ({ cls := "TransactionCaches", name := "rivals", desc := "(III)I" } : Jvm.MethodName) prog_1_method_32_code (4 : Nat) (Option.some Jvm.ClassFile.FieldType.int)) ∈ lw_all := lw_g (lw_at lw_m1 164 rfl) rfl
theorem q187 : (Jvm.Cond.instanceMethod ({ cls := "TransactionCaches", name := "digest", desc := "()I" } : Jvm.MethodName)) ∈ lw_all := lw_g (lw_at lw_m1 166 rfl) rfl
theorem q188 : (Jvm.Cond.selects "TransactionCaches" ({ cls := "TransactionCaches", name := "digest", desc := "()I" } : Jvm.MethodName) ({ cls := "TransactionCaches", name := "digest", desc := "()I" } : Jvm.MethodName)) ∈ lw_all := lw_g (lw_at lw_m1 167 rfl) rfl
theorem q189 : (Jvm.Cond.code ({ cls := "TransactionCaches", name := "digest", desc := "()I" } : Jvm.MethodName) prog_1_method_33_code (4 : Nat) (Option.some Jvm.ClassFile.FieldType.int)) ∈ lw_all := lw_g (lw_at lw_m1 168 rfl) rfl
theorem in_X0 : ∀ w ∈ wsX00, w ∈ lw_all := lw_in wsX00 [42, 44, 46, 48, 50, 52, 54, 56, 58, 60] (by decide +kernel) (by decide +kernel)
end
section
/-! TransactionCachesModel -/
set_option maxRecDepth 100000
def RX1 : String := "TransactionCachesModel"
def TX1 : u_T := fun k => match k with
  | 0 => ("TransactionCachesModel", "memory", "[I", false)
  | 1 => ("TransactionCachesModel", "levels", "[I", false)
  | 2 => ("TransactionCachesModel", "reads", "[I", false)
  | 3 => ("TransactionCachesModel", "writes", "[I", false)
  | _ => ("TransactionCachesModel", "values", "[I", false)
def tyX1 : Nat → FieldType := fun k => match k with
  | 0 => .array .int
  | 1 => .array .int
  | 2 => .array .int
  | 3 => .array .int
  | _ => .array .int
abbrev wsX10 : List Cond := u_ws RX1 TX1 5
theorem nmX1 : ∀ a, a < 5 → ∀ b, b < 5 → a ≠ b → (TX1 a).2.1 ≠ (TX1 b).2.1 := by decide +kernel
theorem tyX1_ok : ∀ k, k < 5 → parseFieldDescriptor (TX1 k).2.2.1 = some (tyX1 k) := by decide +kernel
abbrev cX1_init : ByteArray := prog_3_method_1_code
def yX1_init : MethodName := ⟨RX1, "<init>", "()V"⟩
theorem dX1_init_0 : decode cX1_init 0 = .ok (.aload_n 0, 1) := by decide +kernel
theorem dX1_init_1 : decode cX1_init 1 = .ok (.invokespecial 1, 3) := by decide +kernel
theorem dX1_init_4 : decode cX1_init 4 = .ok (.aload_n 0, 1) := by decide +kernel
theorem dX1_init_5 : decode cX1_init 5 = .ok (.bipush 16, 2) := by decide +kernel
theorem dX1_init_7 : decode cX1_init 7 = .ok (.newarray .int, 2) := by decide +kernel
theorem dX1_init_9 : decode cX1_init 9 = .ok (.putfield 7, 3) := by decide +kernel
theorem dX1_init_12 : decode cX1_init 12 = .ok (.aload_n 0, 1) := by decide +kernel
theorem dX1_init_13 : decode cX1_init 13 = .ok (.iconst 4, 1) := by decide +kernel
theorem dX1_init_14 : decode cX1_init 14 = .ok (.newarray .int, 2) := by decide +kernel
theorem dX1_init_16 : decode cX1_init 16 = .ok (.putfield 13, 3) := by decide +kernel
theorem dX1_init_19 : decode cX1_init 19 = .ok (.aload_n 0, 1) := by decide +kernel
theorem dX1_init_20 : decode cX1_init 20 = .ok (.bipush 16, 2) := by decide +kernel
theorem dX1_init_22 : decode cX1_init 22 = .ok (.newarray .int, 2) := by decide +kernel
theorem dX1_init_24 : decode cX1_init 24 = .ok (.putfield 16, 3) := by decide +kernel
theorem dX1_init_27 : decode cX1_init 27 = .ok (.aload_n 0, 1) := by decide +kernel
theorem dX1_init_28 : decode cX1_init 28 = .ok (.bipush 16, 2) := by decide +kernel
theorem dX1_init_30 : decode cX1_init 30 = .ok (.newarray .int, 2) := by decide +kernel
theorem dX1_init_32 : decode cX1_init 32 = .ok (.putfield 19, 3) := by decide +kernel
theorem dX1_init_35 : decode cX1_init 35 = .ok (.aload_n 0, 1) := by decide +kernel
theorem dX1_init_36 : decode cX1_init 36 = .ok (.sipush 256, 3) := by decide +kernel
theorem dX1_init_39 : decode cX1_init 39 = .ok (.newarray .int, 2) := by decide +kernel
theorem dX1_init_41 : decode cX1_init 41 = .ok (.putfield 22, 3) := by decide +kernel
theorem dX1_init_44 : decode cX1_init 44 = .ok (.return_, 1) := by decide +kernel
abbrev cX1_begin : ByteArray := prog_3_method_4_code
def yX1_begin : MethodName := ⟨RX1, "begin", "(I)I"⟩
theorem dX1_begin_0 : decode cX1_begin 0 = .ok (.aload_n 0, 1) := by decide +kernel
theorem dX1_begin_1 : decode cX1_begin 1 = .ok (.iload_n 1, 1) := by decide +kernel
theorem dX1_begin_2 : decode cX1_begin 2 = .ok (.invokevirtual 25, 3) := by decide +kernel
theorem dX1_begin_5 : decode cX1_begin 5 = .ok (.ifCond .eq 13, 3) := by decide +kernel
theorem dX1_begin_8 : decode cX1_begin 8 = .ok (.aload_n 0, 1) := by decide +kernel
theorem dX1_begin_9 : decode cX1_begin 9 = .ok (.getfield 13, 3) := by decide +kernel
theorem dX1_begin_12 : decode cX1_begin 12 = .ok (.iload_n 1, 1) := by decide +kernel
theorem dX1_begin_13 : decode cX1_begin 13 = .ok (.iaload, 1) := by decide +kernel
theorem dX1_begin_14 : decode cX1_begin 14 = .ok (.iconst 3, 1) := by decide +kernel
theorem dX1_begin_15 : decode cX1_begin 15 = .ok (.if_icmp .ne 5, 3) := by decide +kernel
theorem dX1_begin_18 : decode cX1_begin 18 = .ok (.iconst (-1), 1) := by decide +kernel
theorem dX1_begin_19 : decode cX1_begin 19 = .ok (.ireturn, 1) := by decide +kernel
theorem dX1_begin_20 : decode cX1_begin 20 = .ok (.aload_n 0, 1) := by decide +kernel
theorem dX1_begin_21 : decode cX1_begin 21 = .ok (.getfield 13, 3) := by decide +kernel
theorem dX1_begin_24 : decode cX1_begin 24 = .ok (.iload_n 1, 1) := by decide +kernel
theorem dX1_begin_25 : decode cX1_begin 25 = .ok (.dup2, 1) := by decide +kernel
theorem dX1_begin_26 : decode cX1_begin 26 = .ok (.iaload, 1) := by decide +kernel
theorem dX1_begin_27 : decode cX1_begin 27 = .ok (.iconst 1, 1) := by decide +kernel
theorem dX1_begin_28 : decode cX1_begin 28 = .ok (.iadd, 1) := by decide +kernel
theorem dX1_begin_29 : decode cX1_begin 29 = .ok (.iastore, 1) := by decide +kernel
theorem dX1_begin_30 : decode cX1_begin 30 = .ok (.aload_n 0, 1) := by decide +kernel
theorem dX1_begin_31 : decode cX1_begin 31 = .ok (.getfield 16, 3) := by decide +kernel
theorem dX1_begin_34 : decode cX1_begin 34 = .ok (.iconst 4, 1) := by decide +kernel
theorem dX1_begin_35 : decode cX1_begin 35 = .ok (.iload_n 1, 1) := by decide +kernel
theorem dX1_begin_36 : decode cX1_begin 36 = .ok (.imul, 1) := by decide +kernel
theorem dX1_begin_37 : decode cX1_begin 37 = .ok (.aload_n 0, 1) := by decide +kernel
theorem dX1_begin_38 : decode cX1_begin 38 = .ok (.getfield 13, 3) := by decide +kernel
theorem dX1_begin_41 : decode cX1_begin 41 = .ok (.iload_n 1, 1) := by decide +kernel
theorem dX1_begin_42 : decode cX1_begin 42 = .ok (.iaload, 1) := by decide +kernel
theorem dX1_begin_43 : decode cX1_begin 43 = .ok (.iadd, 1) := by decide +kernel
theorem dX1_begin_44 : decode cX1_begin 44 = .ok (.iconst 0, 1) := by decide +kernel
theorem dX1_begin_45 : decode cX1_begin 45 = .ok (.iastore, 1) := by decide +kernel
theorem dX1_begin_46 : decode cX1_begin 46 = .ok (.aload_n 0, 1) := by decide +kernel
theorem dX1_begin_47 : decode cX1_begin 47 = .ok (.getfield 19, 3) := by decide +kernel
theorem dX1_begin_50 : decode cX1_begin 50 = .ok (.iconst 4, 1) := by decide +kernel
theorem dX1_begin_51 : decode cX1_begin 51 = .ok (.iload_n 1, 1) := by decide +kernel
theorem dX1_begin_52 : decode cX1_begin 52 = .ok (.imul, 1) := by decide +kernel
theorem dX1_begin_53 : decode cX1_begin 53 = .ok (.aload_n 0, 1) := by decide +kernel
theorem dX1_begin_54 : decode cX1_begin 54 = .ok (.getfield 13, 3) := by decide +kernel
theorem dX1_begin_57 : decode cX1_begin 57 = .ok (.iload_n 1, 1) := by decide +kernel
theorem dX1_begin_58 : decode cX1_begin 58 = .ok (.iaload, 1) := by decide +kernel
theorem dX1_begin_59 : decode cX1_begin 59 = .ok (.iadd, 1) := by decide +kernel
theorem dX1_begin_60 : decode cX1_begin 60 = .ok (.iconst 0, 1) := by decide +kernel
theorem dX1_begin_61 : decode cX1_begin 61 = .ok (.iastore, 1) := by decide +kernel
theorem dX1_begin_62 : decode cX1_begin 62 = .ok (.aload_n 0, 1) := by decide +kernel
theorem dX1_begin_63 : decode cX1_begin 63 = .ok (.getfield 13, 3) := by decide +kernel
theorem dX1_begin_66 : decode cX1_begin 66 = .ok (.iload_n 1, 1) := by decide +kernel
theorem dX1_begin_67 : decode cX1_begin 67 = .ok (.iaload, 1) := by decide +kernel
theorem dX1_begin_68 : decode cX1_begin 68 = .ok (.ireturn, 1) := by decide +kernel
abbrev cX1_core : ByteArray := prog_3_method_2_code
def yX1_core : MethodName := ⟨RX1, "core", "(I)Z"⟩
theorem dX1_core_0 : decode cX1_core 0 = .ok (.iload_n 1, 1) := by decide +kernel
theorem dX1_core_1 : decode cX1_core 1 = .ok (.ifCond .lt 12, 3) := by decide +kernel
theorem dX1_core_4 : decode cX1_core 4 = .ok (.iload_n 1, 1) := by decide +kernel
theorem dX1_core_5 : decode cX1_core 5 = .ok (.iconst 3, 1) := by decide +kernel
theorem dX1_core_6 : decode cX1_core 6 = .ok (.if_icmp .gt 7, 3) := by decide +kernel
theorem dX1_core_9 : decode cX1_core 9 = .ok (.iconst 1, 1) := by decide +kernel
theorem dX1_core_10 : decode cX1_core 10 = .ok (.goto 4, 3) := by decide +kernel
theorem dX1_core_13 : decode cX1_core 13 = .ok (.iconst 0, 1) := by decide +kernel
theorem dX1_core_14 : decode cX1_core 14 = .ok (.ireturn, 1) := by decide +kernel
abbrev cX1_read : ByteArray := prog_3_method_8_code
def yX1_read : MethodName := ⟨RX1, "read", "(II)I"⟩
theorem dX1_read_0 : decode cX1_read 0 = .ok (.aload_n 0, 1) := by decide +kernel
theorem dX1_read_1 : decode cX1_read 1 = .ok (.iload_n 1, 1) := by decide +kernel
theorem dX1_read_2 : decode cX1_read 2 = .ok (.invokevirtual 25, 3) := by decide +kernel
theorem dX1_read_5 : decode cX1_read 5 = .ok (.ifCond .eq 11, 3) := by decide +kernel
theorem dX1_read_8 : decode cX1_read 8 = .ok (.aload_n 0, 1) := by decide +kernel
theorem dX1_read_9 : decode cX1_read 9 = .ok (.iload_n 2, 1) := by decide +kernel
theorem dX1_read_10 : decode cX1_read 10 = .ok (.invokevirtual 36, 3) := by decide +kernel
theorem dX1_read_13 : decode cX1_read 13 = .ok (.ifCond .ne 5, 3) := by decide +kernel
theorem dX1_read_16 : decode cX1_read 16 = .ok (.iconst (-1), 1) := by decide +kernel
theorem dX1_read_17 : decode cX1_read 17 = .ok (.ireturn, 1) := by decide +kernel
theorem dX1_read_18 : decode cX1_read 18 = .ok (.aload_n 0, 1) := by decide +kernel
theorem dX1_read_19 : decode cX1_read 19 = .ok (.iload_n 1, 1) := by decide +kernel
theorem dX1_read_20 : decode cX1_read 20 = .ok (.iload_n 2, 1) := by decide +kernel
theorem dX1_read_21 : decode cX1_read 21 = .ok (.iconst 1, 1) := by decide +kernel
theorem dX1_read_22 : decode cX1_read 22 = .ok (.invokevirtual 39, 3) := by decide +kernel
theorem dX1_read_25 : decode cX1_read 25 = .ok (.ifCond .eq 6, 3) := by decide +kernel
theorem dX1_read_28 : decode cX1_read 28 = .ok (.bipush (-2), 2) := by decide +kernel
theorem dX1_read_30 : decode cX1_read 30 = .ok (.ireturn, 1) := by decide +kernel
theorem dX1_read_31 : decode cX1_read 31 = .ok (.iconst 4, 1) := by decide +kernel
theorem dX1_read_32 : decode cX1_read 32 = .ok (.iload_n 1, 1) := by decide +kernel
theorem dX1_read_33 : decode cX1_read 33 = .ok (.imul, 1) := by decide +kernel
theorem dX1_read_34 : decode cX1_read 34 = .ok (.aload_n 0, 1) := by decide +kernel
theorem dX1_read_35 : decode cX1_read 35 = .ok (.getfield 13, 3) := by decide +kernel
theorem dX1_read_38 : decode cX1_read 38 = .ok (.iload_n 1, 1) := by decide +kernel
theorem dX1_read_39 : decode cX1_read 39 = .ok (.iaload, 1) := by decide +kernel
theorem dX1_read_40 : decode cX1_read 40 = .ok (.iadd, 1) := by decide +kernel
theorem dX1_read_41 : decode cX1_read 41 = .ok (.istore_n 3, 1) := by decide +kernel
theorem dX1_read_42 : decode cX1_read 42 = .ok (.aload_n 0, 1) := by decide +kernel
theorem dX1_read_43 : decode cX1_read 43 = .ok (.getfield 16, 3) := by decide +kernel
theorem dX1_read_46 : decode cX1_read 46 = .ok (.iload_n 3, 1) := by decide +kernel
theorem dX1_read_47 : decode cX1_read 47 = .ok (.aload_n 0, 1) := by decide +kernel
theorem dX1_read_48 : decode cX1_read 48 = .ok (.getfield 13, 3) := by decide +kernel
theorem dX1_read_51 : decode cX1_read 51 = .ok (.iload_n 1, 1) := by decide +kernel
theorem dX1_read_52 : decode cX1_read 52 = .ok (.iaload, 1) := by decide +kernel
theorem dX1_read_53 : decode cX1_read 53 = .ok (.ifCond .le 16, 3) := by decide +kernel
theorem dX1_read_56 : decode cX1_read 56 = .ok (.aload_n 0, 1) := by decide +kernel
theorem dX1_read_57 : decode cX1_read 57 = .ok (.getfield 16, 3) := by decide +kernel
theorem dX1_read_60 : decode cX1_read 60 = .ok (.iload_n 3, 1) := by decide +kernel
theorem dX1_read_61 : decode cX1_read 61 = .ok (.iaload, 1) := by decide +kernel
theorem dX1_read_62 : decode cX1_read 62 = .ok (.iconst 1, 1) := by decide +kernel
theorem dX1_read_63 : decode cX1_read 63 = .ok (.iload_n 2, 1) := by decide +kernel
theorem dX1_read_64 : decode cX1_read 64 = .ok (.ishl, 1) := by decide +kernel
theorem dX1_read_65 : decode cX1_read 65 = .ok (.ior, 1) := by decide +kernel
theorem dX1_read_66 : decode cX1_read 66 = .ok (.goto 9, 3) := by decide +kernel
theorem dX1_read_69 : decode cX1_read 69 = .ok (.aload_n 0, 1) := by decide +kernel
theorem dX1_read_70 : decode cX1_read 70 = .ok (.getfield 16, 3) := by decide +kernel
theorem dX1_read_73 : decode cX1_read 73 = .ok (.iload_n 3, 1) := by decide +kernel
theorem dX1_read_74 : decode cX1_read 74 = .ok (.iaload, 1) := by decide +kernel
theorem dX1_read_75 : decode cX1_read 75 = .ok (.iastore, 1) := by decide +kernel
theorem dX1_read_76 : decode cX1_read 76 = .ok (.iconst 0, 1) := by decide +kernel
theorem dX1_read_77 : decode cX1_read 77 = .ok (.ireturn, 1) := by decide +kernel
abbrev cX1_cell : ByteArray := prog_3_method_3_code
def yX1_cell : MethodName := ⟨RX1, "cell", "(I)Z"⟩
theorem dX1_cell_0 : decode cX1_cell 0 = .ok (.iload_n 1, 1) := by decide +kernel
theorem dX1_cell_1 : decode cX1_cell 1 = .ok (.ifCond .lt 13, 3) := by decide +kernel
theorem dX1_cell_4 : decode cX1_cell 4 = .ok (.iload_n 1, 1) := by decide +kernel
theorem dX1_cell_5 : decode cX1_cell 5 = .ok (.bipush 15, 2) := by decide +kernel
theorem dX1_cell_7 : decode cX1_cell 7 = .ok (.if_icmp .gt 7, 3) := by decide +kernel
theorem dX1_cell_10 : decode cX1_cell 10 = .ok (.iconst 1, 1) := by decide +kernel
theorem dX1_cell_11 : decode cX1_cell 11 = .ok (.goto 4, 3) := by decide +kernel
theorem dX1_cell_14 : decode cX1_cell 14 = .ok (.iconst 0, 1) := by decide +kernel
theorem dX1_cell_15 : decode cX1_cell 15 = .ok (.ireturn, 1) := by decide +kernel
abbrev cX1_others : ByteArray := prog_3_method_7_code
def yX1_others : MethodName := ⟨RX1, "others", "(IIZ)I"⟩
theorem dX1_others_0 : decode cX1_others 0 = .ok (.iconst 0, 1) := by decide +kernel
theorem dX1_others_1 : decode cX1_others 1 = .ok (.istore 4, 2) := by decide +kernel
theorem dX1_others_3 : decode cX1_others 3 = .ok (.iconst 0, 1) := by decide +kernel
theorem dX1_others_4 : decode cX1_others 4 = .ok (.istore 5, 2) := by decide +kernel
theorem dX1_others_6 : decode cX1_others 6 = .ok (.iload 5, 2) := by decide +kernel
theorem dX1_others_8 : decode cX1_others 8 = .ok (.iconst 4, 1) := by decide +kernel
theorem dX1_others_9 : decode cX1_others 9 = .ok (.if_icmp .ge 67, 3) := by decide +kernel
theorem dX1_others_12 : decode cX1_others 12 = .ok (.iload_n 3, 1) := by decide +kernel
theorem dX1_others_13 : decode cX1_others 13 = .ok (.ifCond .eq 12, 3) := by decide +kernel
theorem dX1_others_16 : decode cX1_others 16 = .ok (.aload_n 0, 1) := by decide +kernel
theorem dX1_others_17 : decode cX1_others 17 = .ok (.iload 5, 2) := by decide +kernel
theorem dX1_others_19 : decode cX1_others 19 = .ok (.invokevirtual 29, 3) := by decide +kernel
theorem dX1_others_22 : decode cX1_others 22 = .ok (.goto 16, 3) := by decide +kernel
theorem dX1_others_25 : decode cX1_others 25 = .ok (.aload_n 0, 1) := by decide +kernel
theorem dX1_others_26 : decode cX1_others 26 = .ok (.iload 5, 2) := by decide +kernel
theorem dX1_others_28 : decode cX1_others 28 = .ok (.invokevirtual 29, 3) := by decide +kernel
theorem dX1_others_31 : decode cX1_others 31 = .ok (.aload_n 0, 1) := by decide +kernel
theorem dX1_others_32 : decode cX1_others 32 = .ok (.iload 5, 2) := by decide +kernel
theorem dX1_others_34 : decode cX1_others 34 = .ok (.invokevirtual 33, 3) := by decide +kernel
theorem dX1_others_37 : decode cX1_others 37 = .ok (.ior, 1) := by decide +kernel
theorem dX1_others_38 : decode cX1_others 38 = .ok (.istore 6, 2) := by decide +kernel
theorem dX1_others_40 : decode cX1_others 40 = .ok (.iload 5, 2) := by decide +kernel
theorem dX1_others_42 : decode cX1_others 42 = .ok (.iload_n 1, 1) := by decide +kernel
theorem dX1_others_43 : decode cX1_others 43 = .ok (.if_icmp .eq 23, 3) := by decide +kernel
theorem dX1_others_46 : decode cX1_others 46 = .ok (.iload 6, 2) := by decide +kernel
theorem dX1_others_48 : decode cX1_others 48 = .ok (.iload_n 2, 1) := by decide +kernel
theorem dX1_others_49 : decode cX1_others 49 = .ok (.ishr, 1) := by decide +kernel
theorem dX1_others_50 : decode cX1_others 50 = .ok (.iconst 1, 1) := by decide +kernel
theorem dX1_others_51 : decode cX1_others 51 = .ok (.iand, 1) := by decide +kernel
theorem dX1_others_52 : decode cX1_others 52 = .ok (.iconst 1, 1) := by decide +kernel
theorem dX1_others_53 : decode cX1_others 53 = .ok (.if_icmp .ne 13, 3) := by decide +kernel
theorem dX1_others_56 : decode cX1_others 56 = .ok (.iload 4, 2) := by decide +kernel
theorem dX1_others_58 : decode cX1_others 58 = .ok (.iconst 1, 1) := by decide +kernel
theorem dX1_others_59 : decode cX1_others 59 = .ok (.iload 5, 2) := by decide +kernel
theorem dX1_others_61 : decode cX1_others 61 = .ok (.ishl, 1) := by decide +kernel
theorem dX1_others_62 : decode cX1_others 62 = .ok (.ior, 1) := by decide +kernel
theorem dX1_others_63 : decode cX1_others 63 = .ok (.goto 5, 3) := by decide +kernel
theorem dX1_others_66 : decode cX1_others 66 = .ok (.iload 4, 2) := by decide +kernel
theorem dX1_others_68 : decode cX1_others 68 = .ok (.istore 4, 2) := by decide +kernel
theorem dX1_others_70 : decode cX1_others 70 = .ok (.iinc 5 1, 3) := by decide +kernel
theorem dX1_others_73 : decode cX1_others 73 = .ok (.goto (-67), 3) := by decide +kernel
theorem dX1_others_76 : decode cX1_others 76 = .ok (.iload 4, 2) := by decide +kernel
theorem dX1_others_78 : decode cX1_others 78 = .ok (.ireturn, 1) := by decide +kernel
abbrev cX1_writeSet : ByteArray := prog_3_method_6_code
def yX1_writeSet : MethodName := ⟨RX1, "writeSet", "(I)I"⟩
theorem dX1_writeSet_0 : decode cX1_writeSet 0 = .ok (.iconst 0, 1) := by decide +kernel
theorem dX1_writeSet_1 : decode cX1_writeSet 1 = .ok (.istore_n 2, 1) := by decide +kernel
theorem dX1_writeSet_2 : decode cX1_writeSet 2 = .ok (.iconst 1, 1) := by decide +kernel
theorem dX1_writeSet_3 : decode cX1_writeSet 3 = .ok (.istore_n 3, 1) := by decide +kernel
theorem dX1_writeSet_4 : decode cX1_writeSet 4 = .ok (.iload_n 3, 1) := by decide +kernel
theorem dX1_writeSet_5 : decode cX1_writeSet 5 = .ok (.aload_n 0, 1) := by decide +kernel
theorem dX1_writeSet_6 : decode cX1_writeSet 6 = .ok (.getfield 13, 3) := by decide +kernel
theorem dX1_writeSet_9 : decode cX1_writeSet 9 = .ok (.iload_n 1, 1) := by decide +kernel
theorem dX1_writeSet_10 : decode cX1_writeSet 10 = .ok (.iaload, 1) := by decide +kernel
theorem dX1_writeSet_11 : decode cX1_writeSet 11 = .ok (.if_icmp .gt 22, 3) := by decide +kernel
theorem dX1_writeSet_14 : decode cX1_writeSet 14 = .ok (.iload_n 2, 1) := by decide +kernel
theorem dX1_writeSet_15 : decode cX1_writeSet 15 = .ok (.aload_n 0, 1) := by decide +kernel
theorem dX1_writeSet_16 : decode cX1_writeSet 16 = .ok (.getfield 19, 3) := by decide +kernel
theorem dX1_writeSet_19 : decode cX1_writeSet 19 = .ok (.iconst 4, 1) := by decide +kernel
theorem dX1_writeSet_20 : decode cX1_writeSet 20 = .ok (.iload_n 1, 1) := by decide +kernel
theorem dX1_writeSet_21 : decode cX1_writeSet 21 = .ok (.imul, 1) := by decide +kernel
theorem dX1_writeSet_22 : decode cX1_writeSet 22 = .ok (.iload_n 3, 1) := by decide +kernel
theorem dX1_writeSet_23 : decode cX1_writeSet 23 = .ok (.iadd, 1) := by decide +kernel
theorem dX1_writeSet_24 : decode cX1_writeSet 24 = .ok (.iaload, 1) := by decide +kernel
theorem dX1_writeSet_25 : decode cX1_writeSet 25 = .ok (.ior, 1) := by decide +kernel
theorem dX1_writeSet_26 : decode cX1_writeSet 26 = .ok (.istore_n 2, 1) := by decide +kernel
theorem dX1_writeSet_27 : decode cX1_writeSet 27 = .ok (.iinc 3 1, 3) := by decide +kernel
theorem dX1_writeSet_30 : decode cX1_writeSet 30 = .ok (.goto (-26), 3) := by decide +kernel
theorem dX1_writeSet_33 : decode cX1_writeSet 33 = .ok (.iload_n 2, 1) := by decide +kernel
theorem dX1_writeSet_34 : decode cX1_writeSet 34 = .ok (.ireturn, 1) := by decide +kernel
abbrev cX1_readSet : ByteArray := prog_3_method_5_code
def yX1_readSet : MethodName := ⟨RX1, "readSet", "(I)I"⟩
theorem dX1_readSet_0 : decode cX1_readSet 0 = .ok (.iconst 0, 1) := by decide +kernel
theorem dX1_readSet_1 : decode cX1_readSet 1 = .ok (.istore_n 2, 1) := by decide +kernel
theorem dX1_readSet_2 : decode cX1_readSet 2 = .ok (.iconst 1, 1) := by decide +kernel
theorem dX1_readSet_3 : decode cX1_readSet 3 = .ok (.istore_n 3, 1) := by decide +kernel
theorem dX1_readSet_4 : decode cX1_readSet 4 = .ok (.iload_n 3, 1) := by decide +kernel
theorem dX1_readSet_5 : decode cX1_readSet 5 = .ok (.aload_n 0, 1) := by decide +kernel
theorem dX1_readSet_6 : decode cX1_readSet 6 = .ok (.getfield 13, 3) := by decide +kernel
theorem dX1_readSet_9 : decode cX1_readSet 9 = .ok (.iload_n 1, 1) := by decide +kernel
theorem dX1_readSet_10 : decode cX1_readSet 10 = .ok (.iaload, 1) := by decide +kernel
theorem dX1_readSet_11 : decode cX1_readSet 11 = .ok (.if_icmp .gt 22, 3) := by decide +kernel
theorem dX1_readSet_14 : decode cX1_readSet 14 = .ok (.iload_n 2, 1) := by decide +kernel
theorem dX1_readSet_15 : decode cX1_readSet 15 = .ok (.aload_n 0, 1) := by decide +kernel
theorem dX1_readSet_16 : decode cX1_readSet 16 = .ok (.getfield 16, 3) := by decide +kernel
theorem dX1_readSet_19 : decode cX1_readSet 19 = .ok (.iconst 4, 1) := by decide +kernel
theorem dX1_readSet_20 : decode cX1_readSet 20 = .ok (.iload_n 1, 1) := by decide +kernel
theorem dX1_readSet_21 : decode cX1_readSet 21 = .ok (.imul, 1) := by decide +kernel
theorem dX1_readSet_22 : decode cX1_readSet 22 = .ok (.iload_n 3, 1) := by decide +kernel
theorem dX1_readSet_23 : decode cX1_readSet 23 = .ok (.iadd, 1) := by decide +kernel
theorem dX1_readSet_24 : decode cX1_readSet 24 = .ok (.iaload, 1) := by decide +kernel
theorem dX1_readSet_25 : decode cX1_readSet 25 = .ok (.ior, 1) := by decide +kernel
theorem dX1_readSet_26 : decode cX1_readSet 26 = .ok (.istore_n 2, 1) := by decide +kernel
theorem dX1_readSet_27 : decode cX1_readSet 27 = .ok (.iinc 3 1, 3) := by decide +kernel
theorem dX1_readSet_30 : decode cX1_readSet 30 = .ok (.goto (-26), 3) := by decide +kernel
theorem dX1_readSet_33 : decode cX1_readSet 33 = .ok (.iload_n 2, 1) := by decide +kernel
theorem dX1_readSet_34 : decode cX1_readSet 34 = .ok (.ireturn, 1) := by decide +kernel
abbrev cX1_sees : ByteArray := prog_3_method_9_code
def yX1_sees : MethodName := ⟨RX1, "sees", "(II)I"⟩
theorem dX1_sees_0 : decode cX1_sees 0 = .ok (.aload_n 0, 1) := by decide +kernel
theorem dX1_sees_1 : decode cX1_sees 1 = .ok (.iload_n 1, 1) := by decide +kernel
theorem dX1_sees_2 : decode cX1_sees 2 = .ok (.invokevirtual 25, 3) := by decide +kernel
theorem dX1_sees_5 : decode cX1_sees 5 = .ok (.ifCond .eq 11, 3) := by decide +kernel
theorem dX1_sees_8 : decode cX1_sees 8 = .ok (.aload_n 0, 1) := by decide +kernel
theorem dX1_sees_9 : decode cX1_sees 9 = .ok (.iload_n 2, 1) := by decide +kernel
theorem dX1_sees_10 : decode cX1_sees 10 = .ok (.invokevirtual 36, 3) := by decide +kernel
theorem dX1_sees_13 : decode cX1_sees 13 = .ok (.ifCond .ne 5, 3) := by decide +kernel
theorem dX1_sees_16 : decode cX1_sees 16 = .ok (.iconst 0, 1) := by decide +kernel
theorem dX1_sees_17 : decode cX1_sees 17 = .ok (.ireturn, 1) := by decide +kernel
theorem dX1_sees_18 : decode cX1_sees 18 = .ok (.aload_n 0, 1) := by decide +kernel
theorem dX1_sees_19 : decode cX1_sees 19 = .ok (.getfield 13, 3) := by decide +kernel
theorem dX1_sees_22 : decode cX1_sees 22 = .ok (.iload_n 1, 1) := by decide +kernel
theorem dX1_sees_23 : decode cX1_sees 23 = .ok (.iaload, 1) := by decide +kernel
theorem dX1_sees_24 : decode cX1_sees 24 = .ok (.istore_n 3, 1) := by decide +kernel
theorem dX1_sees_25 : decode cX1_sees 25 = .ok (.iload_n 3, 1) := by decide +kernel
theorem dX1_sees_26 : decode cX1_sees 26 = .ok (.iconst 1, 1) := by decide +kernel
theorem dX1_sees_27 : decode cX1_sees 27 = .ok (.if_icmp .lt 43, 3) := by decide +kernel
theorem dX1_sees_30 : decode cX1_sees 30 = .ok (.aload_n 0, 1) := by decide +kernel
theorem dX1_sees_31 : decode cX1_sees 31 = .ok (.getfield 19, 3) := by decide +kernel
theorem dX1_sees_34 : decode cX1_sees 34 = .ok (.iconst 4, 1) := by decide +kernel
theorem dX1_sees_35 : decode cX1_sees 35 = .ok (.iload_n 1, 1) := by decide +kernel
theorem dX1_sees_36 : decode cX1_sees 36 = .ok (.imul, 1) := by decide +kernel
theorem dX1_sees_37 : decode cX1_sees 37 = .ok (.iload_n 3, 1) := by decide +kernel
theorem dX1_sees_38 : decode cX1_sees 38 = .ok (.iadd, 1) := by decide +kernel
theorem dX1_sees_39 : decode cX1_sees 39 = .ok (.iaload, 1) := by decide +kernel
theorem dX1_sees_40 : decode cX1_sees 40 = .ok (.iload_n 2, 1) := by decide +kernel
theorem dX1_sees_41 : decode cX1_sees 41 = .ok (.ishr, 1) := by decide +kernel
theorem dX1_sees_42 : decode cX1_sees 42 = .ok (.iconst 1, 1) := by decide +kernel
theorem dX1_sees_43 : decode cX1_sees 43 = .ok (.iand, 1) := by decide +kernel
theorem dX1_sees_44 : decode cX1_sees 44 = .ok (.iconst 1, 1) := by decide +kernel
theorem dX1_sees_45 : decode cX1_sees 45 = .ok (.if_icmp .ne 19, 3) := by decide +kernel
theorem dX1_sees_48 : decode cX1_sees 48 = .ok (.aload_n 0, 1) := by decide +kernel
theorem dX1_sees_49 : decode cX1_sees 49 = .ok (.getfield 22, 3) := by decide +kernel
theorem dX1_sees_52 : decode cX1_sees 52 = .ok (.bipush 16, 2) := by decide +kernel
theorem dX1_sees_54 : decode cX1_sees 54 = .ok (.iconst 4, 1) := by decide +kernel
theorem dX1_sees_55 : decode cX1_sees 55 = .ok (.iload_n 1, 1) := by decide +kernel
theorem dX1_sees_56 : decode cX1_sees 56 = .ok (.imul, 1) := by decide +kernel
theorem dX1_sees_57 : decode cX1_sees 57 = .ok (.iload_n 3, 1) := by decide +kernel
theorem dX1_sees_58 : decode cX1_sees 58 = .ok (.iadd, 1) := by decide +kernel
theorem dX1_sees_59 : decode cX1_sees 59 = .ok (.imul, 1) := by decide +kernel
theorem dX1_sees_60 : decode cX1_sees 60 = .ok (.iload_n 2, 1) := by decide +kernel
theorem dX1_sees_61 : decode cX1_sees 61 = .ok (.iadd, 1) := by decide +kernel
theorem dX1_sees_62 : decode cX1_sees 62 = .ok (.iaload, 1) := by decide +kernel
theorem dX1_sees_63 : decode cX1_sees 63 = .ok (.ireturn, 1) := by decide +kernel
theorem dX1_sees_64 : decode cX1_sees 64 = .ok (.iinc 3 (-1), 3) := by decide +kernel
theorem dX1_sees_67 : decode cX1_sees 67 = .ok (.goto (-42), 3) := by decide +kernel
theorem dX1_sees_70 : decode cX1_sees 70 = .ok (.aload_n 0, 1) := by decide +kernel
theorem dX1_sees_71 : decode cX1_sees 71 = .ok (.getfield 7, 3) := by decide +kernel
theorem dX1_sees_74 : decode cX1_sees 74 = .ok (.iload_n 2, 1) := by decide +kernel
theorem dX1_sees_75 : decode cX1_sees 75 = .ok (.iaload, 1) := by decide +kernel
theorem dX1_sees_76 : decode cX1_sees 76 = .ok (.ireturn, 1) := by decide +kernel
abbrev cX1_write : ByteArray := prog_3_method_11_code
def yX1_write : MethodName := ⟨RX1, "write", "(III)I"⟩
theorem dX1_write_0 : decode cX1_write 0 = .ok (.aload_n 0, 1) := by decide +kernel
theorem dX1_write_1 : decode cX1_write 1 = .ok (.iload_n 1, 1) := by decide +kernel
theorem dX1_write_2 : decode cX1_write 2 = .ok (.invokevirtual 25, 3) := by decide +kernel
theorem dX1_write_5 : decode cX1_write 5 = .ok (.ifCond .eq 11, 3) := by decide +kernel
theorem dX1_write_8 : decode cX1_write 8 = .ok (.aload_n 0, 1) := by decide +kernel
theorem dX1_write_9 : decode cX1_write 9 = .ok (.iload_n 2, 1) := by decide +kernel
theorem dX1_write_10 : decode cX1_write 10 = .ok (.invokevirtual 36, 3) := by decide +kernel
theorem dX1_write_13 : decode cX1_write 13 = .ok (.ifCond .ne 5, 3) := by decide +kernel
theorem dX1_write_16 : decode cX1_write 16 = .ok (.iconst (-1), 1) := by decide +kernel
theorem dX1_write_17 : decode cX1_write 17 = .ok (.ireturn, 1) := by decide +kernel
theorem dX1_write_18 : decode cX1_write 18 = .ok (.aload_n 0, 1) := by decide +kernel
theorem dX1_write_19 : decode cX1_write 19 = .ok (.iload_n 1, 1) := by decide +kernel
theorem dX1_write_20 : decode cX1_write 20 = .ok (.iload_n 2, 1) := by decide +kernel
theorem dX1_write_21 : decode cX1_write 21 = .ok (.iconst 0, 1) := by decide +kernel
theorem dX1_write_22 : decode cX1_write 22 = .ok (.invokevirtual 39, 3) := by decide +kernel
theorem dX1_write_25 : decode cX1_write 25 = .ok (.ifCond .eq 6, 3) := by decide +kernel
theorem dX1_write_28 : decode cX1_write 28 = .ok (.bipush (-2), 2) := by decide +kernel
theorem dX1_write_30 : decode cX1_write 30 = .ok (.ireturn, 1) := by decide +kernel
theorem dX1_write_31 : decode cX1_write 31 = .ok (.aload_n 0, 1) := by decide +kernel
theorem dX1_write_32 : decode cX1_write 32 = .ok (.iload_n 1, 1) := by decide +kernel
theorem dX1_write_33 : decode cX1_write 33 = .ok (.iload_n 2, 1) := by decide +kernel
theorem dX1_write_34 : decode cX1_write 34 = .ok (.iload_n 3, 1) := by decide +kernel
theorem dX1_write_35 : decode cX1_write 35 = .ok (.invokevirtual 43, 3) := by decide +kernel
theorem dX1_write_38 : decode cX1_write 38 = .ok (.iconst 0, 1) := by decide +kernel
theorem dX1_write_39 : decode cX1_write 39 = .ok (.ireturn, 1) := by decide +kernel
end
section
set_option maxRecDepth 100000
abbrev cX1_put : ByteArray := prog_3_method_10_code
def yX1_put : MethodName := ⟨RX1, "put", "(III)V"⟩
theorem dX1_put_0 : decode cX1_put 0 = .ok (.aload_n 0, 1) := by decide +kernel
theorem dX1_put_1 : decode cX1_put 1 = .ok (.getfield 13, 3) := by decide +kernel
theorem dX1_put_4 : decode cX1_put 4 = .ok (.iload_n 1, 1) := by decide +kernel
theorem dX1_put_5 : decode cX1_put 5 = .ok (.iaload, 1) := by decide +kernel
theorem dX1_put_6 : decode cX1_put 6 = .ok (.ifCond .ne 13, 3) := by decide +kernel
theorem dX1_put_9 : decode cX1_put 9 = .ok (.aload_n 0, 1) := by decide +kernel
theorem dX1_put_10 : decode cX1_put 10 = .ok (.getfield 7, 3) := by decide +kernel
theorem dX1_put_13 : decode cX1_put 13 = .ok (.iload_n 2, 1) := by decide +kernel
theorem dX1_put_14 : decode cX1_put 14 = .ok (.iload_n 3, 1) := by decide +kernel
theorem dX1_put_15 : decode cX1_put 15 = .ok (.iastore, 1) := by decide +kernel
theorem dX1_put_16 : decode cX1_put 16 = .ok (.goto 46, 3) := by decide +kernel
theorem dX1_put_19 : decode cX1_put 19 = .ok (.iconst 4, 1) := by decide +kernel
theorem dX1_put_20 : decode cX1_put 20 = .ok (.iload_n 1, 1) := by decide +kernel
theorem dX1_put_21 : decode cX1_put 21 = .ok (.imul, 1) := by decide +kernel
theorem dX1_put_22 : decode cX1_put 22 = .ok (.aload_n 0, 1) := by decide +kernel
theorem dX1_put_23 : decode cX1_put 23 = .ok (.getfield 13, 3) := by decide +kernel
theorem dX1_put_26 : decode cX1_put 26 = .ok (.iload_n 1, 1) := by decide +kernel
theorem dX1_put_27 : decode cX1_put 27 = .ok (.iaload, 1) := by decide +kernel
theorem dX1_put_28 : decode cX1_put 28 = .ok (.iadd, 1) := by decide +kernel
theorem dX1_put_29 : decode cX1_put 29 = .ok (.istore 4, 2) := by decide +kernel
theorem dX1_put_31 : decode cX1_put 31 = .ok (.aload_n 0, 1) := by decide +kernel
theorem dX1_put_32 : decode cX1_put 32 = .ok (.getfield 19, 3) := by decide +kernel
theorem dX1_put_35 : decode cX1_put 35 = .ok (.iload 4, 2) := by decide +kernel
theorem dX1_put_37 : decode cX1_put 37 = .ok (.aload_n 0, 1) := by decide +kernel
theorem dX1_put_38 : decode cX1_put 38 = .ok (.getfield 19, 3) := by decide +kernel
theorem dX1_put_41 : decode cX1_put 41 = .ok (.iload 4, 2) := by decide +kernel
theorem dX1_put_43 : decode cX1_put 43 = .ok (.iaload, 1) := by decide +kernel
theorem dX1_put_44 : decode cX1_put 44 = .ok (.iconst 1, 1) := by decide +kernel
theorem dX1_put_45 : decode cX1_put 45 = .ok (.iload_n 2, 1) := by decide +kernel
theorem dX1_put_46 : decode cX1_put 46 = .ok (.ishl, 1) := by decide +kernel
theorem dX1_put_47 : decode cX1_put 47 = .ok (.ior, 1) := by decide +kernel
theorem dX1_put_48 : decode cX1_put 48 = .ok (.iastore, 1) := by decide +kernel
theorem dX1_put_49 : decode cX1_put 49 = .ok (.aload_n 0, 1) := by decide +kernel
theorem dX1_put_50 : decode cX1_put 50 = .ok (.getfield 22, 3) := by decide +kernel
theorem dX1_put_53 : decode cX1_put 53 = .ok (.bipush 16, 2) := by decide +kernel
theorem dX1_put_55 : decode cX1_put 55 = .ok (.iload 4, 2) := by decide +kernel
theorem dX1_put_57 : decode cX1_put 57 = .ok (.imul, 1) := by decide +kernel
theorem dX1_put_58 : decode cX1_put 58 = .ok (.iload_n 2, 1) := by decide +kernel
theorem dX1_put_59 : decode cX1_put 59 = .ok (.iadd, 1) := by decide +kernel
theorem dX1_put_60 : decode cX1_put 60 = .ok (.iload_n 3, 1) := by decide +kernel
theorem dX1_put_61 : decode cX1_put 61 = .ok (.iastore, 1) := by decide +kernel
theorem dX1_put_62 : decode cX1_put 62 = .ok (.return_, 1) := by decide +kernel
abbrev cX1_add : ByteArray := prog_3_method_12_code
def yX1_add : MethodName := ⟨RX1, "add", "(III)I"⟩
theorem dX1_add_0 : decode cX1_add 0 = .ok (.aload_n 0, 1) := by decide +kernel
theorem dX1_add_1 : decode cX1_add 1 = .ok (.iload_n 1, 1) := by decide +kernel
theorem dX1_add_2 : decode cX1_add 2 = .ok (.invokevirtual 25, 3) := by decide +kernel
theorem dX1_add_5 : decode cX1_add 5 = .ok (.ifCond .eq 11, 3) := by decide +kernel
theorem dX1_add_8 : decode cX1_add 8 = .ok (.aload_n 0, 1) := by decide +kernel
theorem dX1_add_9 : decode cX1_add 9 = .ok (.iload_n 2, 1) := by decide +kernel
theorem dX1_add_10 : decode cX1_add 10 = .ok (.invokevirtual 36, 3) := by decide +kernel
theorem dX1_add_13 : decode cX1_add 13 = .ok (.ifCond .ne 5, 3) := by decide +kernel
theorem dX1_add_16 : decode cX1_add 16 = .ok (.iconst (-1), 1) := by decide +kernel
theorem dX1_add_17 : decode cX1_add 17 = .ok (.ireturn, 1) := by decide +kernel
theorem dX1_add_18 : decode cX1_add 18 = .ok (.aload_n 0, 1) := by decide +kernel
theorem dX1_add_19 : decode cX1_add 19 = .ok (.iload_n 1, 1) := by decide +kernel
theorem dX1_add_20 : decode cX1_add 20 = .ok (.iload_n 2, 1) := by decide +kernel
theorem dX1_add_21 : decode cX1_add 21 = .ok (.iconst 0, 1) := by decide +kernel
theorem dX1_add_22 : decode cX1_add 22 = .ok (.invokevirtual 39, 3) := by decide +kernel
theorem dX1_add_25 : decode cX1_add 25 = .ok (.ifCond .eq 6, 3) := by decide +kernel
theorem dX1_add_28 : decode cX1_add 28 = .ok (.bipush (-2), 2) := by decide +kernel
theorem dX1_add_30 : decode cX1_add 30 = .ok (.ireturn, 1) := by decide +kernel
theorem dX1_add_31 : decode cX1_add 31 = .ok (.aload_n 0, 1) := by decide +kernel
theorem dX1_add_32 : decode cX1_add 32 = .ok (.iload_n 1, 1) := by decide +kernel
theorem dX1_add_33 : decode cX1_add 33 = .ok (.iload_n 2, 1) := by decide +kernel
theorem dX1_add_34 : decode cX1_add 34 = .ok (.invokevirtual 47, 3) := by decide +kernel
theorem dX1_add_37 : decode cX1_add 37 = .ok (.iload_n 3, 1) := by decide +kernel
theorem dX1_add_38 : decode cX1_add 38 = .ok (.iadd, 1) := by decide +kernel
theorem dX1_add_39 : decode cX1_add 39 = .ok (.istore 4, 2) := by decide +kernel
theorem dX1_add_41 : decode cX1_add 41 = .ok (.aload_n 0, 1) := by decide +kernel
theorem dX1_add_42 : decode cX1_add 42 = .ok (.iload_n 1, 1) := by decide +kernel
theorem dX1_add_43 : decode cX1_add 43 = .ok (.iload_n 2, 1) := by decide +kernel
theorem dX1_add_44 : decode cX1_add 44 = .ok (.invokevirtual 51, 3) := by decide +kernel
theorem dX1_add_47 : decode cX1_add 47 = .ok (.pop, 1) := by decide +kernel
theorem dX1_add_48 : decode cX1_add 48 = .ok (.aload_n 0, 1) := by decide +kernel
theorem dX1_add_49 : decode cX1_add 49 = .ok (.iload_n 1, 1) := by decide +kernel
theorem dX1_add_50 : decode cX1_add 50 = .ok (.iload_n 2, 1) := by decide +kernel
theorem dX1_add_51 : decode cX1_add 51 = .ok (.iload 4, 2) := by decide +kernel
theorem dX1_add_53 : decode cX1_add 53 = .ok (.invokevirtual 43, 3) := by decide +kernel
theorem dX1_add_56 : decode cX1_add 56 = .ok (.iconst 0, 1) := by decide +kernel
theorem dX1_add_57 : decode cX1_add 57 = .ok (.ireturn, 1) := by decide +kernel
abbrev cX1_end : ByteArray := prog_3_method_13_code
def yX1_end : MethodName := ⟨RX1, "end", "(I)I"⟩
theorem dX1_end_0 : decode cX1_end 0 = .ok (.aload_n 0, 1) := by decide +kernel
theorem dX1_end_1 : decode cX1_end 1 = .ok (.iload_n 1, 1) := by decide +kernel
theorem dX1_end_2 : decode cX1_end 2 = .ok (.invokevirtual 25, 3) := by decide +kernel
theorem dX1_end_5 : decode cX1_end 5 = .ok (.ifCond .eq 12, 3) := by decide +kernel
theorem dX1_end_8 : decode cX1_end 8 = .ok (.aload_n 0, 1) := by decide +kernel
theorem dX1_end_9 : decode cX1_end 9 = .ok (.getfield 13, 3) := by decide +kernel
theorem dX1_end_12 : decode cX1_end 12 = .ok (.iload_n 1, 1) := by decide +kernel
theorem dX1_end_13 : decode cX1_end 13 = .ok (.iaload, 1) := by decide +kernel
theorem dX1_end_14 : decode cX1_end 14 = .ok (.ifCond .ne 5, 3) := by decide +kernel
theorem dX1_end_17 : decode cX1_end 17 = .ok (.iconst (-1), 1) := by decide +kernel
theorem dX1_end_18 : decode cX1_end 18 = .ok (.ireturn, 1) := by decide +kernel
theorem dX1_end_19 : decode cX1_end 19 = .ok (.iconst 4, 1) := by decide +kernel
theorem dX1_end_20 : decode cX1_end 20 = .ok (.iload_n 1, 1) := by decide +kernel
theorem dX1_end_21 : decode cX1_end 21 = .ok (.imul, 1) := by decide +kernel
theorem dX1_end_22 : decode cX1_end 22 = .ok (.aload_n 0, 1) := by decide +kernel
theorem dX1_end_23 : decode cX1_end 23 = .ok (.getfield 13, 3) := by decide +kernel
theorem dX1_end_26 : decode cX1_end 26 = .ok (.iload_n 1, 1) := by decide +kernel
theorem dX1_end_27 : decode cX1_end 27 = .ok (.iaload, 1) := by decide +kernel
theorem dX1_end_28 : decode cX1_end 28 = .ok (.iadd, 1) := by decide +kernel
theorem dX1_end_29 : decode cX1_end 29 = .ok (.istore_n 2, 1) := by decide +kernel
theorem dX1_end_30 : decode cX1_end 30 = .ok (.aload_n 0, 1) := by decide +kernel
theorem dX1_end_31 : decode cX1_end 31 = .ok (.getfield 13, 3) := by decide +kernel
theorem dX1_end_34 : decode cX1_end 34 = .ok (.iload_n 1, 1) := by decide +kernel
theorem dX1_end_35 : decode cX1_end 35 = .ok (.dup2, 1) := by decide +kernel
theorem dX1_end_36 : decode cX1_end 36 = .ok (.iaload, 1) := by decide +kernel
theorem dX1_end_37 : decode cX1_end 37 = .ok (.iconst 1, 1) := by decide +kernel
theorem dX1_end_38 : decode cX1_end 38 = .ok (.isub, 1) := by decide +kernel
theorem dX1_end_39 : decode cX1_end 39 = .ok (.iastore, 1) := by decide +kernel
theorem dX1_end_40 : decode cX1_end 40 = .ok (.iconst 0, 1) := by decide +kernel
theorem dX1_end_41 : decode cX1_end 41 = .ok (.istore_n 3, 1) := by decide +kernel
theorem dX1_end_42 : decode cX1_end 42 = .ok (.iload_n 3, 1) := by decide +kernel
theorem dX1_end_43 : decode cX1_end 43 = .ok (.bipush 16, 2) := by decide +kernel
theorem dX1_end_45 : decode cX1_end 45 = .ok (.if_icmp .ge 40, 3) := by decide +kernel
theorem dX1_end_48 : decode cX1_end 48 = .ok (.aload_n 0, 1) := by decide +kernel
theorem dX1_end_49 : decode cX1_end 49 = .ok (.getfield 19, 3) := by decide +kernel
theorem dX1_end_52 : decode cX1_end 52 = .ok (.iload_n 2, 1) := by decide +kernel
theorem dX1_end_53 : decode cX1_end 53 = .ok (.iaload, 1) := by decide +kernel
theorem dX1_end_54 : decode cX1_end 54 = .ok (.iload_n 3, 1) := by decide +kernel
theorem dX1_end_55 : decode cX1_end 55 = .ok (.ishr, 1) := by decide +kernel
theorem dX1_end_56 : decode cX1_end 56 = .ok (.iconst 1, 1) := by decide +kernel
theorem dX1_end_57 : decode cX1_end 57 = .ok (.iand, 1) := by decide +kernel
theorem dX1_end_58 : decode cX1_end 58 = .ok (.iconst 1, 1) := by decide +kernel
theorem dX1_end_59 : decode cX1_end 59 = .ok (.if_icmp .ne 20, 3) := by decide +kernel
theorem dX1_end_62 : decode cX1_end 62 = .ok (.aload_n 0, 1) := by decide +kernel
theorem dX1_end_63 : decode cX1_end 63 = .ok (.iload_n 1, 1) := by decide +kernel
theorem dX1_end_64 : decode cX1_end 64 = .ok (.iload_n 3, 1) := by decide +kernel
theorem dX1_end_65 : decode cX1_end 65 = .ok (.aload_n 0, 1) := by decide +kernel
theorem dX1_end_66 : decode cX1_end 66 = .ok (.getfield 22, 3) := by decide +kernel
theorem dX1_end_69 : decode cX1_end 69 = .ok (.bipush 16, 2) := by decide +kernel
theorem dX1_end_71 : decode cX1_end 71 = .ok (.iload_n 2, 1) := by decide +kernel
theorem dX1_end_72 : decode cX1_end 72 = .ok (.imul, 1) := by decide +kernel
theorem dX1_end_73 : decode cX1_end 73 = .ok (.iload_n 3, 1) := by decide +kernel
theorem dX1_end_74 : decode cX1_end 74 = .ok (.iadd, 1) := by decide +kernel
theorem dX1_end_75 : decode cX1_end 75 = .ok (.iaload, 1) := by decide +kernel
theorem dX1_end_76 : decode cX1_end 76 = .ok (.invokevirtual 43, 3) := by decide +kernel
theorem dX1_end_79 : decode cX1_end 79 = .ok (.iinc 3 1, 3) := by decide +kernel
theorem dX1_end_82 : decode cX1_end 82 = .ok (.goto (-40), 3) := by decide +kernel
theorem dX1_end_85 : decode cX1_end 85 = .ok (.aload_n 0, 1) := by decide +kernel
theorem dX1_end_86 : decode cX1_end 86 = .ok (.getfield 16, 3) := by decide +kernel
theorem dX1_end_89 : decode cX1_end 89 = .ok (.iload_n 2, 1) := by decide +kernel
theorem dX1_end_90 : decode cX1_end 90 = .ok (.iconst 1, 1) := by decide +kernel
theorem dX1_end_91 : decode cX1_end 91 = .ok (.isub, 1) := by decide +kernel
theorem dX1_end_92 : decode cX1_end 92 = .ok (.aload_n 0, 1) := by decide +kernel
theorem dX1_end_93 : decode cX1_end 93 = .ok (.getfield 13, 3) := by decide +kernel
theorem dX1_end_96 : decode cX1_end 96 = .ok (.iload_n 1, 1) := by decide +kernel
theorem dX1_end_97 : decode cX1_end 97 = .ok (.iaload, 1) := by decide +kernel
theorem dX1_end_98 : decode cX1_end 98 = .ok (.ifCond .le 21, 3) := by decide +kernel
theorem dX1_end_101 : decode cX1_end 101 = .ok (.aload_n 0, 1) := by decide +kernel
theorem dX1_end_102 : decode cX1_end 102 = .ok (.getfield 16, 3) := by decide +kernel
theorem dX1_end_105 : decode cX1_end 105 = .ok (.iload_n 2, 1) := by decide +kernel
theorem dX1_end_106 : decode cX1_end 106 = .ok (.iconst 1, 1) := by decide +kernel
theorem dX1_end_107 : decode cX1_end 107 = .ok (.isub, 1) := by decide +kernel
theorem dX1_end_108 : decode cX1_end 108 = .ok (.iaload, 1) := by decide +kernel
theorem dX1_end_109 : decode cX1_end 109 = .ok (.aload_n 0, 1) := by decide +kernel
theorem dX1_end_110 : decode cX1_end 110 = .ok (.getfield 16, 3) := by decide +kernel
theorem dX1_end_113 : decode cX1_end 113 = .ok (.iload_n 2, 1) := by decide +kernel
theorem dX1_end_114 : decode cX1_end 114 = .ok (.iaload, 1) := by decide +kernel
theorem dX1_end_115 : decode cX1_end 115 = .ok (.ior, 1) := by decide +kernel
theorem dX1_end_116 : decode cX1_end 116 = .ok (.goto 11, 3) := by decide +kernel
theorem dX1_end_119 : decode cX1_end 119 = .ok (.aload_n 0, 1) := by decide +kernel
theorem dX1_end_120 : decode cX1_end 120 = .ok (.getfield 16, 3) := by decide +kernel
theorem dX1_end_123 : decode cX1_end 123 = .ok (.iload_n 2, 1) := by decide +kernel
theorem dX1_end_124 : decode cX1_end 124 = .ok (.iconst 1, 1) := by decide +kernel
theorem dX1_end_125 : decode cX1_end 125 = .ok (.isub, 1) := by decide +kernel
theorem dX1_end_126 : decode cX1_end 126 = .ok (.iaload, 1) := by decide +kernel
theorem dX1_end_127 : decode cX1_end 127 = .ok (.iastore, 1) := by decide +kernel
theorem dX1_end_128 : decode cX1_end 128 = .ok (.aload_n 0, 1) := by decide +kernel
theorem dX1_end_129 : decode cX1_end 129 = .ok (.getfield 13, 3) := by decide +kernel
theorem dX1_end_132 : decode cX1_end 132 = .ok (.iload_n 1, 1) := by decide +kernel
theorem dX1_end_133 : decode cX1_end 133 = .ok (.iaload, 1) := by decide +kernel
theorem dX1_end_134 : decode cX1_end 134 = .ok (.ireturn, 1) := by decide +kernel
abbrev cX1_giveUp : ByteArray := prog_3_method_14_code
def yX1_giveUp : MethodName := ⟨RX1, "giveUp", "(I)I"⟩
theorem dX1_giveUp_0 : decode cX1_giveUp 0 = .ok (.aload_n 0, 1) := by decide +kernel
theorem dX1_giveUp_1 : decode cX1_giveUp 1 = .ok (.iload_n 1, 1) := by decide +kernel
theorem dX1_giveUp_2 : decode cX1_giveUp 2 = .ok (.invokevirtual 25, 3) := by decide +kernel
theorem dX1_giveUp_5 : decode cX1_giveUp 5 = .ok (.ifCond .eq 12, 3) := by decide +kernel
theorem dX1_giveUp_8 : decode cX1_giveUp 8 = .ok (.aload_n 0, 1) := by decide +kernel
theorem dX1_giveUp_9 : decode cX1_giveUp 9 = .ok (.getfield 13, 3) := by decide +kernel
theorem dX1_giveUp_12 : decode cX1_giveUp 12 = .ok (.iload_n 1, 1) := by decide +kernel
theorem dX1_giveUp_13 : decode cX1_giveUp 13 = .ok (.iaload, 1) := by decide +kernel
theorem dX1_giveUp_14 : decode cX1_giveUp 14 = .ok (.ifCond .ne 5, 3) := by decide +kernel
theorem dX1_giveUp_17 : decode cX1_giveUp 17 = .ok (.iconst (-1), 1) := by decide +kernel
theorem dX1_giveUp_18 : decode cX1_giveUp 18 = .ok (.ireturn, 1) := by decide +kernel
theorem dX1_giveUp_19 : decode cX1_giveUp 19 = .ok (.aload_n 0, 1) := by decide +kernel
theorem dX1_giveUp_20 : decode cX1_giveUp 20 = .ok (.getfield 13, 3) := by decide +kernel
theorem dX1_giveUp_23 : decode cX1_giveUp 23 = .ok (.iload_n 1, 1) := by decide +kernel
theorem dX1_giveUp_24 : decode cX1_giveUp 24 = .ok (.dup2, 1) := by decide +kernel
theorem dX1_giveUp_25 : decode cX1_giveUp 25 = .ok (.iaload, 1) := by decide +kernel
theorem dX1_giveUp_26 : decode cX1_giveUp 26 = .ok (.iconst 1, 1) := by decide +kernel
theorem dX1_giveUp_27 : decode cX1_giveUp 27 = .ok (.isub, 1) := by decide +kernel
theorem dX1_giveUp_28 : decode cX1_giveUp 28 = .ok (.iastore, 1) := by decide +kernel
theorem dX1_giveUp_29 : decode cX1_giveUp 29 = .ok (.aload_n 0, 1) := by decide +kernel
theorem dX1_giveUp_30 : decode cX1_giveUp 30 = .ok (.getfield 13, 3) := by decide +kernel
theorem dX1_giveUp_33 : decode cX1_giveUp 33 = .ok (.iload_n 1, 1) := by decide +kernel
theorem dX1_giveUp_34 : decode cX1_giveUp 34 = .ok (.iaload, 1) := by decide +kernel
theorem dX1_giveUp_35 : decode cX1_giveUp 35 = .ok (.ireturn, 1) := by decide +kernel
abbrev cX1_giveAllUp : ByteArray := prog_3_method_15_code
def yX1_giveAllUp : MethodName := ⟨RX1, "giveAllUp", "(I)I"⟩
theorem dX1_giveAllUp_0 : decode cX1_giveAllUp 0 = .ok (.aload_n 0, 1) := by decide +kernel
theorem dX1_giveAllUp_1 : decode cX1_giveAllUp 1 = .ok (.iload_n 1, 1) := by decide +kernel
theorem dX1_giveAllUp_2 : decode cX1_giveAllUp 2 = .ok (.invokevirtual 25, 3) := by decide +kernel
theorem dX1_giveAllUp_5 : decode cX1_giveAllUp 5 = .ok (.ifCond .ne 5, 3) := by decide +kernel
theorem dX1_giveAllUp_8 : decode cX1_giveAllUp 8 = .ok (.iconst (-1), 1) := by decide +kernel
theorem dX1_giveAllUp_9 : decode cX1_giveAllUp 9 = .ok (.ireturn, 1) := by decide +kernel
theorem dX1_giveAllUp_10 : decode cX1_giveAllUp 10 = .ok (.aload_n 0, 1) := by decide +kernel
theorem dX1_giveAllUp_11 : decode cX1_giveAllUp 11 = .ok (.getfield 13, 3) := by decide +kernel
theorem dX1_giveAllUp_14 : decode cX1_giveAllUp 14 = .ok (.iload_n 1, 1) := by decide +kernel
theorem dX1_giveAllUp_15 : decode cX1_giveAllUp 15 = .ok (.iaload, 1) := by decide +kernel
theorem dX1_giveAllUp_16 : decode cX1_giveAllUp 16 = .ok (.istore_n 2, 1) := by decide +kernel
theorem dX1_giveAllUp_17 : decode cX1_giveAllUp 17 = .ok (.aload_n 0, 1) := by decide +kernel
theorem dX1_giveAllUp_18 : decode cX1_giveAllUp 18 = .ok (.getfield 13, 3) := by decide +kernel
theorem dX1_giveAllUp_21 : decode cX1_giveAllUp 21 = .ok (.iload_n 1, 1) := by decide +kernel
theorem dX1_giveAllUp_22 : decode cX1_giveAllUp 22 = .ok (.iconst 0, 1) := by decide +kernel
theorem dX1_giveAllUp_23 : decode cX1_giveAllUp 23 = .ok (.iastore, 1) := by decide +kernel
theorem dX1_giveAllUp_24 : decode cX1_giveAllUp 24 = .ok (.iload_n 2, 1) := by decide +kernel
theorem dX1_giveAllUp_25 : decode cX1_giveAllUp 25 = .ok (.ireturn, 1) := by decide +kernel
abbrev cX1_level : ByteArray := prog_3_method_16_code
def yX1_level : MethodName := ⟨RX1, "level", "(I)I"⟩
theorem dX1_level_0 : decode cX1_level 0 = .ok (.aload_n 0, 1) := by decide +kernel
theorem dX1_level_1 : decode cX1_level 1 = .ok (.iload_n 1, 1) := by decide +kernel
theorem dX1_level_2 : decode cX1_level 2 = .ok (.invokevirtual 25, 3) := by decide +kernel
theorem dX1_level_5 : decode cX1_level 5 = .ok (.ifCond .eq 12, 3) := by decide +kernel
theorem dX1_level_8 : decode cX1_level 8 = .ok (.aload_n 0, 1) := by decide +kernel
theorem dX1_level_9 : decode cX1_level 9 = .ok (.getfield 13, 3) := by decide +kernel
theorem dX1_level_12 : decode cX1_level 12 = .ok (.iload_n 1, 1) := by decide +kernel
theorem dX1_level_13 : decode cX1_level 13 = .ok (.iaload, 1) := by decide +kernel
theorem dX1_level_14 : decode cX1_level 14 = .ok (.goto 4, 3) := by decide +kernel
theorem dX1_level_17 : decode cX1_level 17 = .ok (.iconst (-1), 1) := by decide +kernel
theorem dX1_level_18 : decode cX1_level 18 = .ok (.ireturn, 1) := by decide +kernel
abbrev cX1_committed : ByteArray := prog_3_method_17_code
def yX1_committed : MethodName := ⟨RX1, "committed", "(I)I"⟩
theorem dX1_committed_0 : decode cX1_committed 0 = .ok (.aload_n 0, 1) := by decide +kernel
theorem dX1_committed_1 : decode cX1_committed 1 = .ok (.iload_n 1, 1) := by decide +kernel
theorem dX1_committed_2 : decode cX1_committed 2 = .ok (.invokevirtual 36, 3) := by decide +kernel
theorem dX1_committed_5 : decode cX1_committed 5 = .ok (.ifCond .eq 12, 3) := by decide +kernel
theorem dX1_committed_8 : decode cX1_committed 8 = .ok (.aload_n 0, 1) := by decide +kernel
theorem dX1_committed_9 : decode cX1_committed 9 = .ok (.getfield 7, 3) := by decide +kernel
theorem dX1_committed_12 : decode cX1_committed 12 = .ok (.iload_n 1, 1) := by decide +kernel
theorem dX1_committed_13 : decode cX1_committed 13 = .ok (.iaload, 1) := by decide +kernel
theorem dX1_committed_14 : decode cX1_committed 14 = .ok (.goto 4, 3) := by decide +kernel
theorem dX1_committed_17 : decode cX1_committed 17 = .ok (.iconst 0, 1) := by decide +kernel
theorem dX1_committed_18 : decode cX1_committed 18 = .ok (.ireturn, 1) := by decide +kernel
abbrev cX1_readBy : ByteArray := prog_3_method_18_code
def yX1_readBy : MethodName := ⟨RX1, "readBy", "(I)I"⟩
theorem dX1_readBy_0 : decode cX1_readBy 0 = .ok (.aload_n 0, 1) := by decide +kernel
theorem dX1_readBy_1 : decode cX1_readBy 1 = .ok (.iload_n 1, 1) := by decide +kernel
theorem dX1_readBy_2 : decode cX1_readBy 2 = .ok (.invokevirtual 25, 3) := by decide +kernel
theorem dX1_readBy_5 : decode cX1_readBy 5 = .ok (.ifCond .eq 11, 3) := by decide +kernel
theorem dX1_readBy_8 : decode cX1_readBy 8 = .ok (.aload_n 0, 1) := by decide +kernel
theorem dX1_readBy_9 : decode cX1_readBy 9 = .ok (.iload_n 1, 1) := by decide +kernel
theorem dX1_readBy_10 : decode cX1_readBy 10 = .ok (.invokevirtual 33, 3) := by decide +kernel
theorem dX1_readBy_13 : decode cX1_readBy 13 = .ok (.goto 4, 3) := by decide +kernel
theorem dX1_readBy_16 : decode cX1_readBy 16 = .ok (.iconst 0, 1) := by decide +kernel
theorem dX1_readBy_17 : decode cX1_readBy 17 = .ok (.ireturn, 1) := by decide +kernel
abbrev cX1_writtenBy : ByteArray := prog_3_method_19_code
def yX1_writtenBy : MethodName := ⟨RX1, "writtenBy", "(I)I"⟩
theorem dX1_writtenBy_0 : decode cX1_writtenBy 0 = .ok (.aload_n 0, 1) := by decide +kernel
theorem dX1_writtenBy_1 : decode cX1_writtenBy 1 = .ok (.iload_n 1, 1) := by decide +kernel
theorem dX1_writtenBy_2 : decode cX1_writtenBy 2 = .ok (.invokevirtual 25, 3) := by decide +kernel
theorem dX1_writtenBy_5 : decode cX1_writtenBy 5 = .ok (.ifCond .eq 11, 3) := by decide +kernel
theorem dX1_writtenBy_8 : decode cX1_writtenBy 8 = .ok (.aload_n 0, 1) := by decide +kernel
theorem dX1_writtenBy_9 : decode cX1_writtenBy 9 = .ok (.iload_n 1, 1) := by decide +kernel
theorem dX1_writtenBy_10 : decode cX1_writtenBy 10 = .ok (.invokevirtual 29, 3) := by decide +kernel
theorem dX1_writtenBy_13 : decode cX1_writtenBy 13 = .ok (.goto 4, 3) := by decide +kernel
theorem dX1_writtenBy_16 : decode cX1_writtenBy 16 = .ok (.iconst 0, 1) := by decide +kernel
theorem dX1_writtenBy_17 : decode cX1_writtenBy 17 = .ok (.ireturn, 1) := by decide +kernel
abbrev cX1_rivals : ByteArray := prog_3_method_20_code
def yX1_rivals : MethodName := ⟨RX1, "rivals", "(III)I"⟩
theorem dX1_rivals_0 : decode cX1_rivals 0 = .ok (.aload_n 0, 1) := by decide +kernel
theorem dX1_rivals_1 : decode cX1_rivals 1 = .ok (.iload_n 1, 1) := by decide +kernel
theorem dX1_rivals_2 : decode cX1_rivals 2 = .ok (.invokevirtual 25, 3) := by decide +kernel
theorem dX1_rivals_5 : decode cX1_rivals 5 = .ok (.ifCond .eq 38, 3) := by decide +kernel
theorem dX1_rivals_8 : decode cX1_rivals 8 = .ok (.aload_n 0, 1) := by decide +kernel
theorem dX1_rivals_9 : decode cX1_rivals 9 = .ok (.iload_n 2, 1) := by decide +kernel
theorem dX1_rivals_10 : decode cX1_rivals 10 = .ok (.invokevirtual 36, 3) := by decide +kernel
theorem dX1_rivals_13 : decode cX1_rivals 13 = .ok (.ifCond .eq 30, 3) := by decide +kernel
theorem dX1_rivals_16 : decode cX1_rivals 16 = .ok (.iload_n 3, 1) := by decide +kernel
theorem dX1_rivals_17 : decode cX1_rivals 17 = .ok (.ifCond .eq 8, 3) := by decide +kernel
theorem dX1_rivals_20 : decode cX1_rivals 20 = .ok (.iload_n 3, 1) := by decide +kernel
theorem dX1_rivals_21 : decode cX1_rivals 21 = .ok (.iconst 1, 1) := by decide +kernel
theorem dX1_rivals_22 : decode cX1_rivals 22 = .ok (.if_icmp .ne 21, 3) := by decide +kernel
theorem dX1_rivals_25 : decode cX1_rivals 25 = .ok (.aload_n 0, 1) := by decide +kernel
theorem dX1_rivals_26 : decode cX1_rivals 26 = .ok (.iload_n 1, 1) := by decide +kernel
theorem dX1_rivals_27 : decode cX1_rivals 27 = .ok (.iload_n 2, 1) := by decide +kernel
theorem dX1_rivals_28 : decode cX1_rivals 28 = .ok (.iload_n 3, 1) := by decide +kernel
theorem dX1_rivals_29 : decode cX1_rivals 29 = .ok (.ifCond .ne 7, 3) := by decide +kernel
theorem dX1_rivals_32 : decode cX1_rivals 32 = .ok (.iconst 1, 1) := by decide +kernel
theorem dX1_rivals_33 : decode cX1_rivals 33 = .ok (.goto 4, 3) := by decide +kernel
theorem dX1_rivals_36 : decode cX1_rivals 36 = .ok (.iconst 0, 1) := by decide +kernel
theorem dX1_rivals_37 : decode cX1_rivals 37 = .ok (.invokevirtual 39, 3) := by decide +kernel
theorem dX1_rivals_40 : decode cX1_rivals 40 = .ok (.goto 4, 3) := by decide +kernel
theorem dX1_rivals_43 : decode cX1_rivals 43 = .ok (.iconst 0, 1) := by decide +kernel
theorem dX1_rivals_44 : decode cX1_rivals 44 = .ok (.ireturn, 1) := by decide +kernel
abbrev cX1_digest : ByteArray := prog_3_method_21_code
def yX1_digest : MethodName := ⟨RX1, "digest", "()I"⟩
theorem dX1_digest_0 : decode cX1_digest 0 = .ok (.iconst 0, 1) := by decide +kernel
theorem dX1_digest_1 : decode cX1_digest 1 = .ok (.istore_n 1, 1) := by decide +kernel
theorem dX1_digest_2 : decode cX1_digest 2 = .ok (.iconst 0, 1) := by decide +kernel
theorem dX1_digest_3 : decode cX1_digest 3 = .ok (.istore_n 2, 1) := by decide +kernel
theorem dX1_digest_4 : decode cX1_digest 4 = .ok (.iload_n 2, 1) := by decide +kernel
theorem dX1_digest_5 : decode cX1_digest 5 = .ok (.bipush 16, 2) := by decide +kernel
theorem dX1_digest_7 : decode cX1_digest 7 = .ok (.if_icmp .ge 22, 3) := by decide +kernel
theorem dX1_digest_10 : decode cX1_digest 10 = .ok (.iload_n 1, 1) := by decide +kernel
theorem dX1_digest_11 : decode cX1_digest 11 = .ok (.iload_n 2, 1) := by decide +kernel
theorem dX1_digest_12 : decode cX1_digest 12 = .ok (.iconst 1, 1) := by decide +kernel
theorem dX1_digest_13 : decode cX1_digest 13 = .ok (.iadd, 1) := by decide +kernel
theorem dX1_digest_14 : decode cX1_digest 14 = .ok (.aload_n 0, 1) := by decide +kernel
theorem dX1_digest_15 : decode cX1_digest 15 = .ok (.getfield 7, 3) := by decide +kernel
theorem dX1_digest_18 : decode cX1_digest 18 = .ok (.iload_n 2, 1) := by decide +kernel
theorem dX1_digest_19 : decode cX1_digest 19 = .ok (.iaload, 1) := by decide +kernel
theorem dX1_digest_20 : decode cX1_digest 20 = .ok (.imul, 1) := by decide +kernel
theorem dX1_digest_21 : decode cX1_digest 21 = .ok (.iadd, 1) := by decide +kernel
theorem dX1_digest_22 : decode cX1_digest 22 = .ok (.istore_n 1, 1) := by decide +kernel
theorem dX1_digest_23 : decode cX1_digest 23 = .ok (.iinc 2 1, 3) := by decide +kernel
theorem dX1_digest_26 : decode cX1_digest 26 = .ok (.goto (-22), 3) := by decide +kernel
theorem dX1_digest_29 : decode cX1_digest 29 = .ok (.iload_n 1, 1) := by decide +kernel
theorem dX1_digest_30 : decode cX1_digest 30 = .ok (.ireturn, 1) := by decide +kernel
end
section
set_option maxRecDepth 100000
theorem q23 : (Jvm.Cond.initialized "TransactionCachesModel") ∈ lw_all := lw_g (lw_at lw_m1 2 rfl) rfl
theorem q191 : (Jvm.Cond.instantiable "TransactionCachesModel" (5 : Nat)) ∈ lw_all := lw_g (lw_at lw_m1 170 rfl) rfl
theorem q193 : (Jvm.Cond.instanceMethod ({ cls := "TransactionCachesModel", name := "<init>", desc := "()V" } : Jvm.MethodName)) ∈ lw_all := lw_g (lw_at lw_m1 172 rfl) rfl
theorem q194 : (Jvm.Cond.code ({ cls := "TransactionCachesModel", name := "<init>", desc := "()V" } : Jvm.MethodName) prog_3_method_1_code (1 : Nat) (Option.none : Option Jvm.ClassFile.FieldType)) ∈ lw_all := lw_g (lw_at lw_m1 173 rfl) rfl
theorem q195 : (Jvm.Cond.methodLink "TransactionCachesModel" (1 : Nat) ({ cls := "java/lang/Object", name := "<init>", desc := "()V" } : Jvm.MethodName)) ∈ lw_all := lw_g (lw_at lw_m1 174 rfl) rfl
theorem q196 : (Jvm.Cond.fieldLink "TransactionCachesModel" (7 : Nat) "TransactionCachesModel" "memory" "[I") ∈ lw_all := lw_g (lw_at lw_m1 175 rfl) rfl
theorem q197 : (Jvm.Cond.fieldLink "TransactionCachesModel" (13 : Nat) "TransactionCachesModel" "levels" "[I") ∈ lw_all := lw_g (lw_at lw_m1 176 rfl) rfl
theorem q198 : (Jvm.Cond.fieldLink "TransactionCachesModel" (16 : Nat) "TransactionCachesModel" "reads" "[I") ∈ lw_all := lw_g (lw_at lw_m1 177 rfl) rfl
theorem q199 : (Jvm.Cond.fieldLink "TransactionCachesModel" (19 : Nat) "TransactionCachesModel" "writes" "[I") ∈ lw_all := lw_g (lw_at lw_m1 178 rfl) rfl
theorem q200 : (Jvm.Cond.fieldLink "TransactionCachesModel" (22 : Nat) "TransactionCachesModel" "values" "[I") ∈ lw_all := lw_g (lw_at lw_m1 179 rfl) rfl
theorem q201 : (Jvm.Cond.lays "TransactionCachesModel" "TransactionCachesModel" "memory" "[I") ∈ lw_all := lw_g (lw_at lw_m1 180 rfl) rfl
theorem q202 : (Jvm.Cond.soleField "TransactionCachesModel" "memory") ∈ lw_all := lw_g (lw_at lw_m1 181 rfl) rfl
theorem q203 : (Jvm.Cond.lays "TransactionCachesModel" "TransactionCachesModel" "levels" "[I") ∈ lw_all := lw_g (lw_at lw_m1 182 rfl) rfl
theorem q204 : (Jvm.Cond.soleField "TransactionCachesModel" "levels") ∈ lw_all := lw_g (lw_at lw_m1 183 rfl) rfl
theorem q205 : (Jvm.Cond.lays "TransactionCachesModel" "TransactionCachesModel" "reads" "[I") ∈ lw_all := lw_g (lw_at lw_m1 184 rfl) rfl
theorem q206 : (Jvm.Cond.soleField "TransactionCachesModel" "reads") ∈ lw_all := lw_g (lw_at lw_m1 185 rfl) rfl
theorem q207 : (Jvm.Cond.lays "TransactionCachesModel" "TransactionCachesModel" "writes" "[I") ∈ lw_all := lw_g (lw_at lw_m1 186 rfl) rfl
theorem q208 : (Jvm.Cond.soleField "TransactionCachesModel" "writes") ∈ lw_all := lw_g (lw_at lw_m1 187 rfl) rfl
theorem q209 : (Jvm.Cond.lays "TransactionCachesModel" "TransactionCachesModel" "values" "[I") ∈ lw_all := lw_g (lw_at lw_m1 188 rfl) rfl
theorem q210 : (Jvm.Cond.soleField "TransactionCachesModel" "values") ∈ lw_all := lw_g (lw_at lw_m1 189 rfl) rfl
theorem q211 : (Jvm.Cond.superclass "TransactionCachesModel" "java/lang/Object") ∈ lw_all := lw_g (lw_at lw_m1 190 rfl) rfl
theorem q213 : (Jvm.Cond.instanceMethod ({ cls := "TransactionCachesModel", name := "begin", desc := "(I)I" } : Jvm.MethodName)) ∈ lw_all := lw_g (lw_at lw_m1 192 rfl) rfl
theorem q214 : (Jvm.Cond.selects "TransactionCachesModel" ({ cls := "TransactionCachesModel", name := "begin", desc := "(I)I" } : Jvm.MethodName) ({ cls := "TransactionCachesModel", name := "begin", desc := "(I)I" } : Jvm.MethodName)) ∈ lw_all := lw_g (lw_at lw_m1 193 rfl) rfl
theorem q215 : (Jvm.Cond.code ({ cls := "TransactionCachesModel", name := "begin", desc := "(I)I" } : Jvm.MethodName) prog_3_method_4_code (2 : Nat) (Option.some Jvm.ClassFile.FieldType.int)) ∈ lw_all := lw_g (lw_at lw_m1 194 rfl) rfl
theorem q216 : (Jvm.Cond.methodLink "TransactionCachesModel" (25 : Nat) ({ cls := "TransactionCachesModel", name := "core", desc := "(I)Z" } : Jvm.MethodName)) ∈ lw_all := lw_g (lw_at lw_m1 195 rfl) rfl
theorem q217 : (Jvm.Cond.privateMethod ({ cls := "TransactionCachesModel", name := "core", desc := "(I)Z" } : Jvm.MethodName)) ∈ lw_tbl := lw_at lw_m1 196 rfl
theorem q218 : (Jvm.Cond.instanceMethod ({ cls := "TransactionCachesModel", name := "core", desc := "(I)Z" } : Jvm.MethodName)) ∈ lw_all := lw_g (lw_at lw_m1 197 rfl) rfl
theorem q219 : (Jvm.Cond.code ({ cls := "TransactionCachesModel", name := "core", desc := "(I)Z" } : Jvm.MethodName) prog_3_method_2_code (2 : Nat) (Option.some Jvm.ClassFile.FieldType.boolean)) ∈ lw_all := lw_g (lw_at lw_m1 198 rfl) rfl
theorem q221 : (Jvm.Cond.instanceMethod ({ cls := "TransactionCachesModel", name := "read", desc := "(II)I" } : Jvm.MethodName)) ∈ lw_all := lw_g (lw_at lw_m1 200 rfl) rfl
theorem q222 : (Jvm.Cond.selects "TransactionCachesModel" ({ cls := "TransactionCachesModel", name := "read", desc := "(II)I" } : Jvm.MethodName) ({ cls := "TransactionCachesModel", name := "read", desc := "(II)I" } : Jvm.MethodName)) ∈ lw_all := lw_g (lw_at lw_m1 201 rfl) rfl
theorem q223 : (Jvm.Cond.code ({ cls := "TransactionCachesModel", name := "read", desc := "(II)I" } : Jvm.MethodName) prog_3_method_8_code (4 : Nat) (Option.some Jvm.ClassFile.FieldType.int)) ∈ lw_all := lw_g (lw_at lw_m1 202 rfl) rfl
theorem q224 : (Jvm.Cond.methodLink "TransactionCachesModel" (36 : Nat) ({ cls := "TransactionCachesModel", name := "cell", desc := "(I)Z" } : Jvm.MethodName)) ∈ lw_all := lw_g (lw_at lw_m1 203 rfl) rfl
theorem q225 : (Jvm.Cond.privateMethod ({ cls := "TransactionCachesModel", name := "cell", desc := "(I)Z" } : Jvm.MethodName)) ∈ lw_tbl := lw_at lw_m1 204 rfl
theorem q226 : (Jvm.Cond.instanceMethod ({ cls := "TransactionCachesModel", name := "cell", desc := "(I)Z" } : Jvm.MethodName)) ∈ lw_all := lw_g (lw_at lw_m1 205 rfl) rfl
theorem q227 : (Jvm.Cond.code ({ cls := "TransactionCachesModel", name := "cell", desc := "(I)Z" } : Jvm.MethodName) prog_3_method_3_code (2 : Nat) (Option.some Jvm.ClassFile.FieldType.boolean)) ∈ lw_all := lw_g (lw_at lw_m1 206 rfl) rfl
theorem q228 : (Jvm.Cond.methodLink "TransactionCachesModel" (39 : Nat) ({ cls := "TransactionCachesModel", name := "others", desc := "(IIZ)I" } : Jvm.MethodName)) ∈ lw_all := lw_g (lw_at lw_m1 207 rfl) rfl
theorem q229 : (Jvm.Cond.privateMethod ({ cls := "TransactionCachesModel", name := "others", desc := "(IIZ)I" } : Jvm.MethodName)) ∈ lw_tbl := lw_at lw_m1 208 rfl
theorem q230 : (Jvm.Cond.instanceMethod ({ cls := "TransactionCachesModel", name := "others", desc := "(IIZ)I" } : Jvm.MethodName)) ∈ lw_all := lw_g (lw_at lw_m1 209 rfl) rfl
theorem q231 : (Jvm.Cond.code ({ cls := "TransactionCachesModel", name := "others", desc := "(IIZ)I" } : Jvm.MethodName) prog_3_method_7_code (7 : Nat) (Option.some Jvm.ClassFile.FieldType.int)) ∈ lw_all := lw_g (lw_at lw_m1 210 rfl) rfl
theorem q232 : (Jvm.Cond.methodLink "TransactionCachesModel" (29 : Nat) ({ cls := "TransactionCachesModel", name := "writeSet", desc := "(I)I" } : Jvm.MethodName)) ∈ lw_all := lw_g (lw_at lw_m1 211 rfl) rfl
theorem q233 : (Jvm.Cond.privateMethod ({ cls := "TransactionCachesModel", name := "writeSet", desc := "(I)I" } : Jvm.MethodName)) ∈ lw_tbl := lw_at lw_m1 212 rfl
theorem q234 : (Jvm.Cond.instanceMethod ({ cls := "TransactionCachesModel", name := "writeSet", desc := "(I)I" } : Jvm.MethodName)) ∈ lw_all := lw_g (lw_at lw_m1 213 rfl) rfl
theorem q235 : (Jvm.Cond.code ({ cls := "TransactionCachesModel", name := "writeSet", desc := "(I)I" } : Jvm.MethodName) prog_3_method_6_code (4 : Nat) (Option.some Jvm.ClassFile.FieldType.int)) ∈ lw_all := lw_g (lw_at lw_m1 214 rfl) rfl
theorem q236 : (Jvm.Cond.methodLink "TransactionCachesModel" (33 : Nat) ({ cls := "TransactionCachesModel", name := "readSet", desc := "(I)I" } : Jvm.MethodName)) ∈ lw_all := lw_g (lw_at lw_m1 215 rfl) rfl
theorem q237 : (Jvm.Cond.privateMethod ({ cls := "TransactionCachesModel", name := "readSet", desc := "(I)I" } : Jvm.MethodName)) ∈ lw_tbl := lw_at lw_m1 216 rfl
theorem q238 : (Jvm.Cond.instanceMethod ({ cls := "TransactionCachesModel", name := "readSet", desc := "(I)I" } : Jvm.MethodName)) ∈ lw_all := lw_g (lw_at lw_m1 217 rfl) rfl
theorem q239 : (Jvm.Cond.code ({ cls := "TransactionCachesModel", name := "readSet", desc := "(I)I" } : Jvm.MethodName) prog_3_method_5_code (4 : Nat) (Option.some Jvm.ClassFile.FieldType.int)) ∈ lw_all := lw_g (lw_at lw_m1 218 rfl) rfl
theorem q241 : (Jvm.Cond.instanceMethod ({ cls := "TransactionCachesModel", name := "sees", desc := "(II)I" } : Jvm.MethodName)) ∈ lw_all := lw_g (lw_at lw_m1 220 rfl) rfl
theorem q242 : (Jvm.Cond.selects "TransactionCachesModel" ({ cls := "TransactionCachesModel", name := "sees", desc := "(II)I" } : Jvm.MethodName) ({ cls := "TransactionCachesModel", name := "sees", desc := "(II)I" } : Jvm.MethodName)) ∈ lw_all := lw_g (lw_at lw_m1 221 rfl) rfl
theorem q243 : (Jvm.Cond.code ({ cls := "TransactionCachesModel", name := "sees", desc := "(II)I" } : Jvm.MethodName) prog_3_method_9_code (4 : Nat) (Option.some Jvm.ClassFile.FieldType.int)) ∈ lw_all := lw_g (lw_at lw_m1 222 rfl) rfl
theorem q245 : (Jvm.Cond.instanceMethod ({ cls := "TransactionCachesModel", name := "write", desc := "(III)I" } : Jvm.MethodName)) ∈ lw_all := lw_g (lw_at lw_m1 224 rfl) rfl
theorem q246 : (Jvm.Cond.selects "TransactionCachesModel" ({ cls := "TransactionCachesModel", name := "write", desc := "(III)I" } : Jvm.MethodName) ({ cls := "TransactionCachesModel", name := "write", desc := "(III)I" } : Jvm.MethodName)) ∈ lw_all := lw_g (lw_at lw_m1 225 rfl) rfl
theorem q247 : (Jvm.Cond.code ({ cls := "TransactionCachesModel", name := "write", desc := "(III)I" } : Jvm.MethodName) prog_3_method_11_code (4 : Nat) (Option.some Jvm.ClassFile.FieldType.int)) ∈ lw_all := lw_g (lw_at lw_m1 226 rfl) rfl
theorem q248 : (Jvm.Cond.methodLink "TransactionCachesModel" (43 : Nat) ({ cls := "TransactionCachesModel", name := "put", desc := "(III)V" } : Jvm.MethodName)) ∈ lw_all := lw_g (lw_at lw_m1 227 rfl) rfl
theorem q249 : (Jvm.Cond.privateMethod ({ cls := "TransactionCachesModel", name := "put", desc := "(III)V" } : Jvm.MethodName)) ∈ lw_tbl := lw_at lw_m1 228 rfl
theorem q250 : (Jvm.Cond.instanceMethod ({ cls := "TransactionCachesModel", name := "put", desc := "(III)V" } : Jvm.MethodName)) ∈ lw_all := lw_g (lw_at lw_m1 229 rfl) rfl
theorem q251 : (Jvm.Cond.code ({ cls := "TransactionCachesModel", name := "put", desc := "(III)V" } : Jvm.MethodName) prog_3_method_10_code (5 : Nat) (Option.none : Option Jvm.ClassFile.FieldType)) ∈ lw_all := lw_g (lw_at lw_m1 230 rfl) rfl
theorem q253 : (Jvm.Cond.instanceMethod ({ cls := "TransactionCachesModel", name := "add", desc := "(III)I" } : Jvm.MethodName)) ∈ lw_all := lw_g (lw_at lw_m1 232 rfl) rfl
theorem q254 : (Jvm.Cond.selects "TransactionCachesModel" ({ cls := "TransactionCachesModel", name := "add", desc := "(III)I" } : Jvm.MethodName) ({ cls := "TransactionCachesModel", name := "add", desc := "(III)I" } : Jvm.MethodName)) ∈ lw_all := lw_g (lw_at lw_m1 233 rfl) rfl
theorem q255 : (Jvm.Cond.code ({ cls := "TransactionCachesModel", name := "add", desc := "(III)I" } : Jvm.MethodName) prog_3_method_12_code (5 : Nat) (Option.some Jvm.ClassFile.FieldType.int)) ∈ lw_all := lw_g (lw_at lw_m1 234 rfl) rfl
theorem q256 : (Jvm.Cond.methodLink "TransactionCachesModel" (47 : Nat) ({ cls := "TransactionCachesModel", name := "sees", desc := "(II)I" } : Jvm.MethodName)) ∈ lw_all := lw_g (lw_at lw_m1 235 rfl) rfl
theorem q257 : (Jvm.Cond.methodLink "TransactionCachesModel" (51 : Nat) ({ cls := "TransactionCachesModel", name := "read", desc := "(II)I" } : Jvm.MethodName)) ∈ lw_all := lw_g (lw_at lw_m1 236 rfl) rfl
theorem q259 : (Jvm.Cond.instanceMethod ({ cls := "TransactionCachesModel", name := "end", desc := "(I)I" } : Jvm.MethodName)) ∈ lw_all := lw_g (lw_at lw_m1 238 rfl) rfl
theorem q260 : (Jvm.Cond.selects "TransactionCachesModel" ({ cls := "TransactionCachesModel", name := "end", desc := "(I)I" } : Jvm.MethodName) ({ cls := "TransactionCachesModel", name := "end", desc := "(I)I" } : Jvm.MethodName)) ∈ lw_all := lw_g (lw_at lw_m1 239 rfl) rfl
theorem q261 : (Jvm.Cond.code ({ cls := "TransactionCachesModel", name := "end", desc := "(I)I" } : Jvm.MethodName) prog_3_method_13_code (4 : Nat) (Option.some Jvm.ClassFile.FieldType.int)) ∈ lw_all := lw_g (lw_at lw_m2 0 rfl) rfl
theorem q263 : (Jvm.Cond.instanceMethod ({ cls := "TransactionCachesModel", name := "giveUp", desc := "(I)I" } : Jvm.MethodName)) ∈ lw_all := lw_g (lw_at lw_m2 2 rfl) rfl
theorem q264 : (Jvm.Cond.selects "TransactionCachesModel" ({ cls := "TransactionCachesModel", name := "giveUp", desc := "(I)I" } : Jvm.MethodName) ({ cls := "TransactionCachesModel", name := "giveUp", desc := "(I)I" } : Jvm.MethodName)) ∈ lw_all := lw_g (lw_at lw_m2 3 rfl) rfl
theorem q265 : (Jvm.Cond.code ({ cls := "TransactionCachesModel", name := "giveUp", desc := "(I)I" } : Jvm.MethodName) prog_3_method_14_code (2 : Nat) (Option.some Jvm.ClassFile.FieldType.int)) ∈ lw_all := lw_g (lw_at lw_m2 4 rfl) rfl
theorem q267 : (Jvm.Cond.instanceMethod ({ cls := "TransactionCachesModel", name := "giveAllUp", desc := "(I)I" } : Jvm.MethodName)) ∈ lw_all := lw_g (lw_at lw_m2 6 rfl) rfl
theorem q268 : (Jvm.Cond.selects "TransactionCachesModel" ({ cls := "TransactionCachesModel", name := "giveAllUp", desc := "(I)I" } : Jvm.MethodName) ({ cls := "TransactionCachesModel", name := "giveAllUp", desc := "(I)I" } : Jvm.MethodName)) ∈ lw_all := lw_g (lw_at lw_m2 7 rfl) rfl
theorem q269 : (Jvm.Cond.code ({ cls := "TransactionCachesModel", name := "giveAllUp", desc := "(I)I" } : Jvm.MethodName) prog_3_method_15_code (3 : Nat) (Option.some Jvm.ClassFile.FieldType.int)) ∈ lw_all := lw_g (lw_at lw_m2 8 rfl) rfl
theorem q271 : (Jvm.Cond.instanceMethod ({ cls := "TransactionCachesModel", name := "level", desc := "(I)I" } : Jvm.MethodName)) ∈ lw_all := lw_g (lw_at lw_m2 10 rfl) rfl
theorem q272 : (Jvm.Cond.selects "TransactionCachesModel" ({ cls := "TransactionCachesModel", name := "level", desc := "(I)I" } : Jvm.MethodName) ({ cls := "TransactionCachesModel", name := "level", desc := "(I)I" } : Jvm.MethodName)) ∈ lw_all := lw_g (lw_at lw_m2 11 rfl) rfl
theorem q273 : (Jvm.Cond.code ({ cls := "TransactionCachesModel", name := "level", desc := "(I)I" } : Jvm.MethodName) prog_3_method_16_code (2 : Nat) (Option.some Jvm.ClassFile.FieldType.int)) ∈ lw_all := lw_g (lw_at lw_m2 12 rfl) rfl
theorem q275 : (Jvm.Cond.instanceMethod ({ cls := "TransactionCachesModel", name := "committed", desc := "(I)I" } : Jvm.MethodName)) ∈ lw_all := lw_g (lw_at lw_m2 14 rfl) rfl
theorem q276 : (Jvm.Cond.selects "TransactionCachesModel" ({ cls := "TransactionCachesModel", name := "committed", desc := "(I)I" } : Jvm.MethodName) ({ cls := "TransactionCachesModel", name := "committed", desc := "(I)I" } : Jvm.MethodName)) ∈ lw_all := lw_g (lw_at lw_m2 15 rfl) rfl
theorem q277 : (Jvm.Cond.code ({ cls := "TransactionCachesModel", name := "committed", desc := "(I)I" } : Jvm.MethodName) prog_3_method_17_code (2 : Nat) (Option.some Jvm.ClassFile.FieldType.int)) ∈ lw_all := lw_g (lw_at lw_m2 16 rfl) rfl
theorem q279 : (Jvm.Cond.instanceMethod ({ cls := "TransactionCachesModel", name := "readBy", desc := "(I)I" } : Jvm.MethodName)) ∈ lw_all := lw_g (lw_at lw_m2 18 rfl) rfl
theorem q280 : (Jvm.Cond.selects "TransactionCachesModel" ({ cls := "TransactionCachesModel", name := "readBy", desc := "(I)I" } : Jvm.MethodName) ({ cls := "TransactionCachesModel", name := "readBy", desc := "(I)I" } : Jvm.MethodName)) ∈ lw_all := lw_g (lw_at lw_m2 19 rfl) rfl
theorem q281 : (Jvm.Cond.code ({ cls := "TransactionCachesModel", name := "readBy", desc := "(I)I" } : Jvm.MethodName) prog_3_method_18_code (2 : Nat) (Option.some Jvm.ClassFile.FieldType.int)) ∈ lw_all := lw_g (lw_at lw_m2 20 rfl) rfl
theorem q283 : (Jvm.Cond.instanceMethod ({ cls := "TransactionCachesModel", name := "writtenBy", desc := "(I)I" } : Jvm.MethodName)) ∈ lw_all := lw_g (lw_at lw_m2 22 rfl) rfl
theorem q284 : (Jvm.Cond.selects "TransactionCachesModel" ({ cls := "TransactionCachesModel", name := "writtenBy", desc := "(I)I" } : Jvm.MethodName) ({ cls := "TransactionCachesModel", name := "writtenBy", desc := "(I)I" } : Jvm.MethodName)) ∈ lw_all := lw_g (lw_at lw_m2 23 rfl) rfl
theorem q285 : (Jvm.Cond.code ({ cls := "TransactionCachesModel", name := "writtenBy", desc := "(I)I" } : Jvm.MethodName) prog_3_method_19_code (2 : Nat) (Option.some Jvm.ClassFile.FieldType.int)) ∈ lw_all := lw_g (lw_at lw_m2 24 rfl) rfl
theorem q287 : (Jvm.Cond.instanceMethod ({ cls := "TransactionCachesModel", name := "rivals", desc := "(III)I" } : Jvm.MethodName)) ∈ lw_all := lw_g (lw_at lw_m2 26 rfl) rfl
theorem q288 : (Jvm.Cond.selects "TransactionCachesModel" ({ cls := "TransactionCachesModel", name := "rivals", desc := "(III)I" } : Jvm.MethodName) ({ cls := "TransactionCachesModel", name := "rivals", desc := "(III)I" } : Jvm.MethodName)) ∈ lw_all := lw_g (lw_at lw_m2 27 rfl) rfl
theorem q289 : (Jvm.Cond.code ({ cls := "TransactionCachesModel", name := "rivals", desc := "(III)I" } : Jvm.MethodName) prog_3_method_20_code (4 : Nat) (Option.some Jvm.ClassFile.FieldType.int)) ∈ lw_all := lw_g (lw_at lw_m2 28 rfl) rfl
theorem q291 : (Jvm.Cond.instanceMethod ({ cls := "TransactionCachesModel", name := "digest", desc := "()I" } : Jvm.MethodName)) ∈ lw_all := lw_g (lw_at lw_m2 30 rfl) rfl
theorem q292 : (Jvm.Cond.selects "TransactionCachesModel" ({ cls := "TransactionCachesModel", name := "digest", desc := "()I" } : Jvm.MethodName) ({ cls := "TransactionCachesModel", name := "digest", desc := "()I" } : Jvm.MethodName)) ∈ lw_all := lw_g (lw_at lw_m2 31 rfl) rfl
theorem q293 : (Jvm.Cond.code ({ cls := "TransactionCachesModel", name := "digest", desc := "()I" } : Jvm.MethodName) prog_3_method_21_code (3 : Nat) (Option.some Jvm.ClassFile.FieldType.int)) ∈ lw_all := lw_g (lw_at lw_m2 32 rfl) rfl
theorem in_X1 : ∀ w ∈ wsX10, w ∈ lw_all := lw_in wsX10 [201, 203, 205, 207, 209] (by decide +kernel) (by decide +kernel)

theorem q63 : (Jvm.Cond.arrayClass Jvm.ClassFile.FieldType.int) ∈ lw_all := lw_g (lw_at lw_m1 42 rfl) rfl
set_option maxRecDepth 100000
theorem q64 : (Jvm.Cond.arrayClass Jvm.ClassFile.FieldType.byte) ∈ lw_all := lw_g (lw_at lw_m1 43 rfl) rfl
theorem q21 : (Jvm.Cond.initialized "TransactionCachesLaw") ∈ lw_all := lw_g (lw_at lw_m1 0 rfl) rfl
set_option maxRecDepth 100000
theorem q24 : (Jvm.Cond.classLink "TransactionCachesLaw" (7 : Nat) "TransactionCaches") ∈ lw_all := lw_g (lw_at lw_m1 3 rfl) rfl
theorem q26 : (Jvm.Cond.methodLink "TransactionCachesLaw" (9 : Nat) ({ cls := "TransactionCaches", name := "<init>", desc := "()V" } : Jvm.MethodName)) ∈ lw_all := lw_g (lw_at lw_m1 5 rfl) rfl
theorem q65 : (Jvm.Cond.methodLink "TransactionCachesLaw" (13 : Nat) ({ cls := "TransactionCaches", name := "begin", desc := "(I)I" } : Jvm.MethodName)) ∈ lw_all := lw_g (lw_at lw_m1 44 rfl) rfl
theorem q72 : (Jvm.Cond.methodLink "TransactionCachesLaw" (18 : Nat) ({ cls := "TransactionCaches", name := "read", desc := "(II)I" } : Jvm.MethodName)) ∈ lw_all := lw_g (lw_at lw_m1 51 rfl) rfl
theorem q110 : (Jvm.Cond.methodLink "TransactionCachesLaw" (23 : Nat) ({ cls := "TransactionCaches", name := "sees", desc := "(II)I" } : Jvm.MethodName)) ∈ lw_all := lw_g (lw_at lw_m1 89 rfl) rfl
theorem q130 : (Jvm.Cond.methodLink "TransactionCachesLaw" (27 : Nat) ({ cls := "TransactionCaches", name := "write", desc := "(III)I" } : Jvm.MethodName)) ∈ lw_all := lw_g (lw_at lw_m1 109 rfl) rfl
theorem q146 : (Jvm.Cond.methodLink "TransactionCachesLaw" (32 : Nat) ({ cls := "TransactionCaches", name := "add", desc := "(III)I" } : Jvm.MethodName)) ∈ lw_all := lw_g (lw_at lw_m1 125 rfl) rfl
theorem q150 : (Jvm.Cond.methodLink "TransactionCachesLaw" (36 : Nat) ({ cls := "TransactionCaches", name := "end", desc := "(I)I" } : Jvm.MethodName)) ∈ lw_all := lw_g (lw_at lw_m1 129 rfl) rfl
theorem q154 : (Jvm.Cond.methodLink "TransactionCachesLaw" (40 : Nat) ({ cls := "TransactionCaches", name := "giveUp", desc := "(I)I" } : Jvm.MethodName)) ∈ lw_all := lw_g (lw_at lw_m1 133 rfl) rfl
theorem q162 : (Jvm.Cond.methodLink "TransactionCachesLaw" (44 : Nat) ({ cls := "TransactionCaches", name := "giveAllUp", desc := "(I)I" } : Jvm.MethodName)) ∈ lw_all := lw_g (lw_at lw_m1 141 rfl) rfl
theorem q166 : (Jvm.Cond.methodLink "TransactionCachesLaw" (48 : Nat) ({ cls := "TransactionCaches", name := "level", desc := "(I)I" } : Jvm.MethodName)) ∈ lw_all := lw_g (lw_at lw_m1 145 rfl) rfl
theorem q170 : (Jvm.Cond.methodLink "TransactionCachesLaw" (52 : Nat) ({ cls := "TransactionCaches", name := "committed", desc := "(I)I" } : Jvm.MethodName)) ∈ lw_all := lw_g (lw_at lw_m1 149 rfl) rfl
theorem q174 : (Jvm.Cond.methodLink "TransactionCachesLaw" (56 : Nat) ({ cls := "TransactionCaches", name := "readBy", desc := "(I)I" } : Jvm.MethodName)) ∈ lw_all := lw_g (lw_at lw_m1 153 rfl) rfl
theorem q178 : (Jvm.Cond.methodLink "TransactionCachesLaw" (60 : Nat) ({ cls := "TransactionCaches", name := "writtenBy", desc := "(I)I" } : Jvm.MethodName)) ∈ lw_all := lw_g (lw_at lw_m1 157 rfl) rfl
theorem q182 : (Jvm.Cond.methodLink "TransactionCachesLaw" (64 : Nat) ({ cls := "TransactionCaches", name := "rivals", desc := "(III)I" } : Jvm.MethodName)) ∈ lw_all := lw_g (lw_at lw_m1 161 rfl) rfl
theorem q186 : (Jvm.Cond.methodLink "TransactionCachesLaw" (68 : Nat) ({ cls := "TransactionCaches", name := "digest", desc := "()I" } : Jvm.MethodName)) ∈ lw_all := lw_g (lw_at lw_m1 165 rfl) rfl
theorem q190 : (Jvm.Cond.classLink "TransactionCachesLaw" (10 : Nat) "TransactionCachesModel") ∈ lw_all := lw_g (lw_at lw_m1 169 rfl) rfl
theorem q192 : (Jvm.Cond.methodLink "TransactionCachesLaw" (12 : Nat) ({ cls := "TransactionCachesModel", name := "<init>", desc := "()V" } : Jvm.MethodName)) ∈ lw_all := lw_g (lw_at lw_m1 171 rfl) rfl
theorem q212 : (Jvm.Cond.methodLink "TransactionCachesLaw" (17 : Nat) ({ cls := "TransactionCachesModel", name := "begin", desc := "(I)I" } : Jvm.MethodName)) ∈ lw_all := lw_g (lw_at lw_m1 191 rfl) rfl
theorem q220 : (Jvm.Cond.methodLink "TransactionCachesLaw" (22 : Nat) ({ cls := "TransactionCachesModel", name := "read", desc := "(II)I" } : Jvm.MethodName)) ∈ lw_all := lw_g (lw_at lw_m1 199 rfl) rfl
theorem q240 : (Jvm.Cond.methodLink "TransactionCachesLaw" (26 : Nat) ({ cls := "TransactionCachesModel", name := "sees", desc := "(II)I" } : Jvm.MethodName)) ∈ lw_all := lw_g (lw_at lw_m1 219 rfl) rfl
theorem q244 : (Jvm.Cond.methodLink "TransactionCachesLaw" (31 : Nat) ({ cls := "TransactionCachesModel", name := "write", desc := "(III)I" } : Jvm.MethodName)) ∈ lw_all := lw_g (lw_at lw_m1 223 rfl) rfl
theorem q252 : (Jvm.Cond.methodLink "TransactionCachesLaw" (35 : Nat) ({ cls := "TransactionCachesModel", name := "add", desc := "(III)I" } : Jvm.MethodName)) ∈ lw_all := lw_g (lw_at lw_m1 231 rfl) rfl
theorem q258 : (Jvm.Cond.methodLink "TransactionCachesLaw" (39 : Nat) ({ cls := "TransactionCachesModel", name := "end", desc := "(I)I" } : Jvm.MethodName)) ∈ lw_all := lw_g (lw_at lw_m1 237 rfl) rfl
theorem q262 : (Jvm.Cond.methodLink "TransactionCachesLaw" (43 : Nat) ({ cls := "TransactionCachesModel", name := "giveUp", desc := "(I)I" } : Jvm.MethodName)) ∈ lw_all := lw_g (lw_at lw_m2 1 rfl) rfl
theorem q266 : (Jvm.Cond.methodLink "TransactionCachesLaw" (47 : Nat) ({ cls := "TransactionCachesModel", name := "giveAllUp", desc := "(I)I" } : Jvm.MethodName)) ∈ lw_all := lw_g (lw_at lw_m2 5 rfl) rfl
theorem q270 : (Jvm.Cond.methodLink "TransactionCachesLaw" (51 : Nat) ({ cls := "TransactionCachesModel", name := "level", desc := "(I)I" } : Jvm.MethodName)) ∈ lw_all := lw_g (lw_at lw_m2 9 rfl) rfl
theorem q274 : (Jvm.Cond.methodLink "TransactionCachesLaw" (55 : Nat) ({ cls := "TransactionCachesModel", name := "committed", desc := "(I)I" } : Jvm.MethodName)) ∈ lw_all := lw_g (lw_at lw_m2 13 rfl) rfl
theorem q278 : (Jvm.Cond.methodLink "TransactionCachesLaw" (59 : Nat) ({ cls := "TransactionCachesModel", name := "readBy", desc := "(I)I" } : Jvm.MethodName)) ∈ lw_all := lw_g (lw_at lw_m2 17 rfl) rfl
theorem q282 : (Jvm.Cond.methodLink "TransactionCachesLaw" (63 : Nat) ({ cls := "TransactionCachesModel", name := "writtenBy", desc := "(I)I" } : Jvm.MethodName)) ∈ lw_all := lw_g (lw_at lw_m2 21 rfl) rfl
theorem q286 : (Jvm.Cond.methodLink "TransactionCachesLaw" (67 : Nat) ({ cls := "TransactionCachesModel", name := "rivals", desc := "(III)I" } : Jvm.MethodName)) ∈ lw_all := lw_g (lw_at lw_m2 25 rfl) rfl
theorem q290 : (Jvm.Cond.methodLink "TransactionCachesLaw" (72 : Nat) ({ cls := "TransactionCachesModel", name := "digest", desc := "()I" } : Jvm.MethodName)) ∈ lw_all := lw_g (lw_at lw_m2 29 rfl) rfl
end
section
/-! the law's own entry -/
set_option maxRecDepth 100000
abbrev cL_law : ByteArray := code
theorem dL_law_0 : decode cL_law 0 = .ok (.new 7, 3) := by decide +kernel
theorem dL_law_3 : decode cL_law 3 = .ok (.dup, 1) := by decide +kernel
theorem dL_law_4 : decode cL_law 4 = .ok (.invokespecial 9, 3) := by decide +kernel
theorem dL_law_7 : decode cL_law 7 = .ok (.astore_n 1, 1) := by decide +kernel
theorem dL_law_8 : decode cL_law 8 = .ok (.new 10, 3) := by decide +kernel
theorem dL_law_11 : decode cL_law 11 = .ok (.dup, 1) := by decide +kernel
theorem dL_law_12 : decode cL_law 12 = .ok (.invokespecial 12, 3) := by decide +kernel
theorem dL_law_15 : decode cL_law 15 = .ok (.astore_n 2, 1) := by decide +kernel
theorem dL_law_16 : decode cL_law 16 = .ok (.iconst 0, 1) := by decide +kernel
theorem dL_law_17 : decode cL_law 17 = .ok (.istore_n 3, 1) := by decide +kernel
theorem dL_law_18 : decode cL_law 18 = .ok (.iload_n 3, 1) := by decide +kernel
theorem dL_law_19 : decode cL_law 19 = .ok (.aload_n 0, 1) := by decide +kernel
theorem dL_law_20 : decode cL_law 20 = .ok (.arraylength, 1) := by decide +kernel
theorem dL_law_21 : decode cL_law 21 = .ok (.iconst 4, 1) := by decide +kernel
theorem dL_law_22 : decode cL_law 22 = .ok (.isub, 1) := by decide +kernel
theorem dL_law_23 : decode cL_law 23 = .ok (.if_icmp .gt 479, 3) := by decide +kernel
theorem dL_law_26 : decode cL_law 26 = .ok (.aload_n 0, 1) := by decide +kernel
theorem dL_law_27 : decode cL_law 27 = .ok (.iload_n 3, 1) := by decide +kernel
theorem dL_law_28 : decode cL_law 28 = .ok (.iaload, 1) := by decide +kernel
theorem dL_law_29 : decode cL_law 29 = .ok (.bipush 15, 2) := by decide +kernel
theorem dL_law_31 : decode cL_law 31 = .ok (.iand, 1) := by decide +kernel
theorem dL_law_32 : decode cL_law 32 = .ok (.tableswitch 464 0 13 #[72, 95, 128, 161, 204, 247, 270, 293, 316, 339, 362, 385, 408, 451], 72) := by decide +kernel
theorem dL_law_104 : decode cL_law 104 = .ok (.aload_n 1, 1) := by decide +kernel
theorem dL_law_105 : decode cL_law 105 = .ok (.aload_n 0, 1) := by decide +kernel
theorem dL_law_106 : decode cL_law 106 = .ok (.iload_n 3, 1) := by decide +kernel
theorem dL_law_107 : decode cL_law 107 = .ok (.iconst 1, 1) := by decide +kernel
theorem dL_law_108 : decode cL_law 108 = .ok (.iadd, 1) := by decide +kernel
theorem dL_law_109 : decode cL_law 109 = .ok (.iaload, 1) := by decide +kernel
theorem dL_law_110 : decode cL_law 110 = .ok (.invokevirtual 13, 3) := by decide +kernel
theorem dL_law_113 : decode cL_law 113 = .ok (.aload_n 2, 1) := by decide +kernel
theorem dL_law_114 : decode cL_law 114 = .ok (.aload_n 0, 1) := by decide +kernel
theorem dL_law_115 : decode cL_law 115 = .ok (.iload_n 3, 1) := by decide +kernel
theorem dL_law_116 : decode cL_law 116 = .ok (.iconst 1, 1) := by decide +kernel
theorem dL_law_117 : decode cL_law 117 = .ok (.iadd, 1) := by decide +kernel
theorem dL_law_118 : decode cL_law 118 = .ok (.iaload, 1) := by decide +kernel
theorem dL_law_119 : decode cL_law 119 = .ok (.invokevirtual 17, 3) := by decide +kernel
theorem dL_law_122 : decode cL_law 122 = .ok (.if_icmp .eq 374, 3) := by decide +kernel
theorem dL_law_125 : decode cL_law 125 = .ok (.iconst 0, 1) := by decide +kernel
theorem dL_law_126 : decode cL_law 126 = .ok (.ireturn, 1) := by decide +kernel
theorem dL_law_127 : decode cL_law 127 = .ok (.aload_n 1, 1) := by decide +kernel
theorem dL_law_128 : decode cL_law 128 = .ok (.aload_n 0, 1) := by decide +kernel
theorem dL_law_129 : decode cL_law 129 = .ok (.iload_n 3, 1) := by decide +kernel
theorem dL_law_130 : decode cL_law 130 = .ok (.iconst 1, 1) := by decide +kernel
theorem dL_law_131 : decode cL_law 131 = .ok (.iadd, 1) := by decide +kernel
theorem dL_law_132 : decode cL_law 132 = .ok (.iaload, 1) := by decide +kernel
theorem dL_law_133 : decode cL_law 133 = .ok (.aload_n 0, 1) := by decide +kernel
theorem dL_law_134 : decode cL_law 134 = .ok (.iload_n 3, 1) := by decide +kernel
theorem dL_law_135 : decode cL_law 135 = .ok (.iconst 2, 1) := by decide +kernel
theorem dL_law_136 : decode cL_law 136 = .ok (.iadd, 1) := by decide +kernel
theorem dL_law_137 : decode cL_law 137 = .ok (.iaload, 1) := by decide +kernel
theorem dL_law_138 : decode cL_law 138 = .ok (.invokevirtual 18, 3) := by decide +kernel
theorem dL_law_141 : decode cL_law 141 = .ok (.aload_n 2, 1) := by decide +kernel
theorem dL_law_142 : decode cL_law 142 = .ok (.aload_n 0, 1) := by decide +kernel
theorem dL_law_143 : decode cL_law 143 = .ok (.iload_n 3, 1) := by decide +kernel
theorem dL_law_144 : decode cL_law 144 = .ok (.iconst 1, 1) := by decide +kernel
theorem dL_law_145 : decode cL_law 145 = .ok (.iadd, 1) := by decide +kernel
end
section
set_option maxRecDepth 100000
theorem dL_law_146 : decode cL_law 146 = .ok (.iaload, 1) := by decide +kernel
theorem dL_law_147 : decode cL_law 147 = .ok (.aload_n 0, 1) := by decide +kernel
theorem dL_law_148 : decode cL_law 148 = .ok (.iload_n 3, 1) := by decide +kernel
theorem dL_law_149 : decode cL_law 149 = .ok (.iconst 2, 1) := by decide +kernel
theorem dL_law_150 : decode cL_law 150 = .ok (.iadd, 1) := by decide +kernel
theorem dL_law_151 : decode cL_law 151 = .ok (.iaload, 1) := by decide +kernel
theorem dL_law_152 : decode cL_law 152 = .ok (.invokevirtual 22, 3) := by decide +kernel
theorem dL_law_155 : decode cL_law 155 = .ok (.if_icmp .eq 341, 3) := by decide +kernel
theorem dL_law_158 : decode cL_law 158 = .ok (.iconst 0, 1) := by decide +kernel
theorem dL_law_159 : decode cL_law 159 = .ok (.ireturn, 1) := by decide +kernel
theorem dL_law_160 : decode cL_law 160 = .ok (.aload_n 1, 1) := by decide +kernel
theorem dL_law_161 : decode cL_law 161 = .ok (.aload_n 0, 1) := by decide +kernel
theorem dL_law_162 : decode cL_law 162 = .ok (.iload_n 3, 1) := by decide +kernel
theorem dL_law_163 : decode cL_law 163 = .ok (.iconst 1, 1) := by decide +kernel
theorem dL_law_164 : decode cL_law 164 = .ok (.iadd, 1) := by decide +kernel
theorem dL_law_165 : decode cL_law 165 = .ok (.iaload, 1) := by decide +kernel
theorem dL_law_166 : decode cL_law 166 = .ok (.aload_n 0, 1) := by decide +kernel
theorem dL_law_167 : decode cL_law 167 = .ok (.iload_n 3, 1) := by decide +kernel
theorem dL_law_168 : decode cL_law 168 = .ok (.iconst 2, 1) := by decide +kernel
theorem dL_law_169 : decode cL_law 169 = .ok (.iadd, 1) := by decide +kernel
theorem dL_law_170 : decode cL_law 170 = .ok (.iaload, 1) := by decide +kernel
theorem dL_law_171 : decode cL_law 171 = .ok (.invokevirtual 23, 3) := by decide +kernel
theorem dL_law_174 : decode cL_law 174 = .ok (.aload_n 2, 1) := by decide +kernel
theorem dL_law_175 : decode cL_law 175 = .ok (.aload_n 0, 1) := by decide +kernel
theorem dL_law_176 : decode cL_law 176 = .ok (.iload_n 3, 1) := by decide +kernel
theorem dL_law_177 : decode cL_law 177 = .ok (.iconst 1, 1) := by decide +kernel
theorem dL_law_178 : decode cL_law 178 = .ok (.iadd, 1) := by decide +kernel
theorem dL_law_179 : decode cL_law 179 = .ok (.iaload, 1) := by decide +kernel
theorem dL_law_180 : decode cL_law 180 = .ok (.aload_n 0, 1) := by decide +kernel
theorem dL_law_181 : decode cL_law 181 = .ok (.iload_n 3, 1) := by decide +kernel
theorem dL_law_182 : decode cL_law 182 = .ok (.iconst 2, 1) := by decide +kernel
theorem dL_law_183 : decode cL_law 183 = .ok (.iadd, 1) := by decide +kernel
theorem dL_law_184 : decode cL_law 184 = .ok (.iaload, 1) := by decide +kernel
theorem dL_law_185 : decode cL_law 185 = .ok (.invokevirtual 26, 3) := by decide +kernel
theorem dL_law_188 : decode cL_law 188 = .ok (.if_icmp .eq 308, 3) := by decide +kernel
theorem dL_law_191 : decode cL_law 191 = .ok (.iconst 0, 1) := by decide +kernel
theorem dL_law_192 : decode cL_law 192 = .ok (.ireturn, 1) := by decide +kernel
theorem dL_law_193 : decode cL_law 193 = .ok (.aload_n 1, 1) := by decide +kernel
theorem dL_law_194 : decode cL_law 194 = .ok (.aload_n 0, 1) := by decide +kernel
theorem dL_law_195 : decode cL_law 195 = .ok (.iload_n 3, 1) := by decide +kernel
theorem dL_law_196 : decode cL_law 196 = .ok (.iconst 1, 1) := by decide +kernel
theorem dL_law_197 : decode cL_law 197 = .ok (.iadd, 1) := by decide +kernel
theorem dL_law_198 : decode cL_law 198 = .ok (.iaload, 1) := by decide +kernel
theorem dL_law_199 : decode cL_law 199 = .ok (.aload_n 0, 1) := by decide +kernel
theorem dL_law_200 : decode cL_law 200 = .ok (.iload_n 3, 1) := by decide +kernel
theorem dL_law_201 : decode cL_law 201 = .ok (.iconst 2, 1) := by decide +kernel
theorem dL_law_202 : decode cL_law 202 = .ok (.iadd, 1) := by decide +kernel
theorem dL_law_203 : decode cL_law 203 = .ok (.iaload, 1) := by decide +kernel
theorem dL_law_204 : decode cL_law 204 = .ok (.aload_n 0, 1) := by decide +kernel
theorem dL_law_205 : decode cL_law 205 = .ok (.iload_n 3, 1) := by decide +kernel
theorem dL_law_206 : decode cL_law 206 = .ok (.iconst 3, 1) := by decide +kernel
theorem dL_law_207 : decode cL_law 207 = .ok (.iadd, 1) := by decide +kernel
theorem dL_law_208 : decode cL_law 208 = .ok (.iaload, 1) := by decide +kernel
theorem dL_law_209 : decode cL_law 209 = .ok (.invokevirtual 27, 3) := by decide +kernel
theorem dL_law_212 : decode cL_law 212 = .ok (.aload_n 2, 1) := by decide +kernel
theorem dL_law_213 : decode cL_law 213 = .ok (.aload_n 0, 1) := by decide +kernel
end
section
set_option maxRecDepth 100000
theorem dL_law_214 : decode cL_law 214 = .ok (.iload_n 3, 1) := by decide +kernel
theorem dL_law_215 : decode cL_law 215 = .ok (.iconst 1, 1) := by decide +kernel
theorem dL_law_216 : decode cL_law 216 = .ok (.iadd, 1) := by decide +kernel
theorem dL_law_217 : decode cL_law 217 = .ok (.iaload, 1) := by decide +kernel
theorem dL_law_218 : decode cL_law 218 = .ok (.aload_n 0, 1) := by decide +kernel
theorem dL_law_219 : decode cL_law 219 = .ok (.iload_n 3, 1) := by decide +kernel
theorem dL_law_220 : decode cL_law 220 = .ok (.iconst 2, 1) := by decide +kernel
theorem dL_law_221 : decode cL_law 221 = .ok (.iadd, 1) := by decide +kernel
theorem dL_law_222 : decode cL_law 222 = .ok (.iaload, 1) := by decide +kernel
theorem dL_law_223 : decode cL_law 223 = .ok (.aload_n 0, 1) := by decide +kernel
theorem dL_law_224 : decode cL_law 224 = .ok (.iload_n 3, 1) := by decide +kernel
theorem dL_law_225 : decode cL_law 225 = .ok (.iconst 3, 1) := by decide +kernel
theorem dL_law_226 : decode cL_law 226 = .ok (.iadd, 1) := by decide +kernel
theorem dL_law_227 : decode cL_law 227 = .ok (.iaload, 1) := by decide +kernel
theorem dL_law_228 : decode cL_law 228 = .ok (.invokevirtual 31, 3) := by decide +kernel
theorem dL_law_231 : decode cL_law 231 = .ok (.if_icmp .eq 265, 3) := by decide +kernel
theorem dL_law_234 : decode cL_law 234 = .ok (.iconst 0, 1) := by decide +kernel
theorem dL_law_235 : decode cL_law 235 = .ok (.ireturn, 1) := by decide +kernel
theorem dL_law_236 : decode cL_law 236 = .ok (.aload_n 1, 1) := by decide +kernel
theorem dL_law_237 : decode cL_law 237 = .ok (.aload_n 0, 1) := by decide +kernel
theorem dL_law_238 : decode cL_law 238 = .ok (.iload_n 3, 1) := by decide +kernel
theorem dL_law_239 : decode cL_law 239 = .ok (.iconst 1, 1) := by decide +kernel
theorem dL_law_240 : decode cL_law 240 = .ok (.iadd, 1) := by decide +kernel
theorem dL_law_241 : decode cL_law 241 = .ok (.iaload, 1) := by decide +kernel
theorem dL_law_242 : decode cL_law 242 = .ok (.aload_n 0, 1) := by decide +kernel
theorem dL_law_243 : decode cL_law 243 = .ok (.iload_n 3, 1) := by decide +kernel
theorem dL_law_244 : decode cL_law 244 = .ok (.iconst 2, 1) := by decide +kernel
theorem dL_law_245 : decode cL_law 245 = .ok (.iadd, 1) := by decide +kernel
theorem dL_law_246 : decode cL_law 246 = .ok (.iaload, 1) := by decide +kernel
theorem dL_law_247 : decode cL_law 247 = .ok (.aload_n 0, 1) := by decide +kernel
theorem dL_law_248 : decode cL_law 248 = .ok (.iload_n 3, 1) := by decide +kernel
theorem dL_law_249 : decode cL_law 249 = .ok (.iconst 3, 1) := by decide +kernel
theorem dL_law_250 : decode cL_law 250 = .ok (.iadd, 1) := by decide +kernel
theorem dL_law_251 : decode cL_law 251 = .ok (.iaload, 1) := by decide +kernel
theorem dL_law_252 : decode cL_law 252 = .ok (.invokevirtual 32, 3) := by decide +kernel
theorem dL_law_255 : decode cL_law 255 = .ok (.aload_n 2, 1) := by decide +kernel
theorem dL_law_256 : decode cL_law 256 = .ok (.aload_n 0, 1) := by decide +kernel
theorem dL_law_257 : decode cL_law 257 = .ok (.iload_n 3, 1) := by decide +kernel
theorem dL_law_258 : decode cL_law 258 = .ok (.iconst 1, 1) := by decide +kernel
theorem dL_law_259 : decode cL_law 259 = .ok (.iadd, 1) := by decide +kernel
theorem dL_law_260 : decode cL_law 260 = .ok (.iaload, 1) := by decide +kernel
theorem dL_law_261 : decode cL_law 261 = .ok (.aload_n 0, 1) := by decide +kernel
theorem dL_law_262 : decode cL_law 262 = .ok (.iload_n 3, 1) := by decide +kernel
theorem dL_law_263 : decode cL_law 263 = .ok (.iconst 2, 1) := by decide +kernel
theorem dL_law_264 : decode cL_law 264 = .ok (.iadd, 1) := by decide +kernel
theorem dL_law_265 : decode cL_law 265 = .ok (.iaload, 1) := by decide +kernel
theorem dL_law_266 : decode cL_law 266 = .ok (.aload_n 0, 1) := by decide +kernel
theorem dL_law_267 : decode cL_law 267 = .ok (.iload_n 3, 1) := by decide +kernel
theorem dL_law_268 : decode cL_law 268 = .ok (.iconst 3, 1) := by decide +kernel
theorem dL_law_269 : decode cL_law 269 = .ok (.iadd, 1) := by decide +kernel
theorem dL_law_270 : decode cL_law 270 = .ok (.iaload, 1) := by decide +kernel
theorem dL_law_271 : decode cL_law 271 = .ok (.invokevirtual 35, 3) := by decide +kernel
theorem dL_law_274 : decode cL_law 274 = .ok (.if_icmp .eq 222, 3) := by decide +kernel
theorem dL_law_277 : decode cL_law 277 = .ok (.iconst 0, 1) := by decide +kernel
theorem dL_law_278 : decode cL_law 278 = .ok (.ireturn, 1) := by decide +kernel
theorem dL_law_279 : decode cL_law 279 = .ok (.aload_n 1, 1) := by decide +kernel
end
section
set_option maxRecDepth 100000
theorem dL_law_280 : decode cL_law 280 = .ok (.aload_n 0, 1) := by decide +kernel
theorem dL_law_281 : decode cL_law 281 = .ok (.iload_n 3, 1) := by decide +kernel
theorem dL_law_282 : decode cL_law 282 = .ok (.iconst 1, 1) := by decide +kernel
theorem dL_law_283 : decode cL_law 283 = .ok (.iadd, 1) := by decide +kernel
theorem dL_law_284 : decode cL_law 284 = .ok (.iaload, 1) := by decide +kernel
theorem dL_law_285 : decode cL_law 285 = .ok (.invokevirtual 36, 3) := by decide +kernel
theorem dL_law_288 : decode cL_law 288 = .ok (.aload_n 2, 1) := by decide +kernel
theorem dL_law_289 : decode cL_law 289 = .ok (.aload_n 0, 1) := by decide +kernel
theorem dL_law_290 : decode cL_law 290 = .ok (.iload_n 3, 1) := by decide +kernel
theorem dL_law_291 : decode cL_law 291 = .ok (.iconst 1, 1) := by decide +kernel
theorem dL_law_292 : decode cL_law 292 = .ok (.iadd, 1) := by decide +kernel
theorem dL_law_293 : decode cL_law 293 = .ok (.iaload, 1) := by decide +kernel
theorem dL_law_294 : decode cL_law 294 = .ok (.invokevirtual 39, 3) := by decide +kernel
theorem dL_law_297 : decode cL_law 297 = .ok (.if_icmp .eq 199, 3) := by decide +kernel
theorem dL_law_300 : decode cL_law 300 = .ok (.iconst 0, 1) := by decide +kernel
theorem dL_law_301 : decode cL_law 301 = .ok (.ireturn, 1) := by decide +kernel
theorem dL_law_302 : decode cL_law 302 = .ok (.aload_n 1, 1) := by decide +kernel
theorem dL_law_303 : decode cL_law 303 = .ok (.aload_n 0, 1) := by decide +kernel
theorem dL_law_304 : decode cL_law 304 = .ok (.iload_n 3, 1) := by decide +kernel
theorem dL_law_305 : decode cL_law 305 = .ok (.iconst 1, 1) := by decide +kernel
theorem dL_law_306 : decode cL_law 306 = .ok (.iadd, 1) := by decide +kernel
theorem dL_law_307 : decode cL_law 307 = .ok (.iaload, 1) := by decide +kernel
theorem dL_law_308 : decode cL_law 308 = .ok (.invokevirtual 40, 3) := by decide +kernel
theorem dL_law_311 : decode cL_law 311 = .ok (.aload_n 2, 1) := by decide +kernel
theorem dL_law_312 : decode cL_law 312 = .ok (.aload_n 0, 1) := by decide +kernel
theorem dL_law_313 : decode cL_law 313 = .ok (.iload_n 3, 1) := by decide +kernel
theorem dL_law_314 : decode cL_law 314 = .ok (.iconst 1, 1) := by decide +kernel
theorem dL_law_315 : decode cL_law 315 = .ok (.iadd, 1) := by decide +kernel
theorem dL_law_316 : decode cL_law 316 = .ok (.iaload, 1) := by decide +kernel
theorem dL_law_317 : decode cL_law 317 = .ok (.invokevirtual 43, 3) := by decide +kernel
theorem dL_law_320 : decode cL_law 320 = .ok (.if_icmp .eq 176, 3) := by decide +kernel
theorem dL_law_323 : decode cL_law 323 = .ok (.iconst 0, 1) := by decide +kernel
theorem dL_law_324 : decode cL_law 324 = .ok (.ireturn, 1) := by decide +kernel
theorem dL_law_325 : decode cL_law 325 = .ok (.aload_n 1, 1) := by decide +kernel
theorem dL_law_326 : decode cL_law 326 = .ok (.aload_n 0, 1) := by decide +kernel
theorem dL_law_327 : decode cL_law 327 = .ok (.iload_n 3, 1) := by decide +kernel
theorem dL_law_328 : decode cL_law 328 = .ok (.iconst 1, 1) := by decide +kernel
theorem dL_law_329 : decode cL_law 329 = .ok (.iadd, 1) := by decide +kernel
theorem dL_law_330 : decode cL_law 330 = .ok (.iaload, 1) := by decide +kernel
theorem dL_law_331 : decode cL_law 331 = .ok (.invokevirtual 44, 3) := by decide +kernel
theorem dL_law_334 : decode cL_law 334 = .ok (.aload_n 2, 1) := by decide +kernel
theorem dL_law_335 : decode cL_law 335 = .ok (.aload_n 0, 1) := by decide +kernel
theorem dL_law_336 : decode cL_law 336 = .ok (.iload_n 3, 1) := by decide +kernel
theorem dL_law_337 : decode cL_law 337 = .ok (.iconst 1, 1) := by decide +kernel
theorem dL_law_338 : decode cL_law 338 = .ok (.iadd, 1) := by decide +kernel
theorem dL_law_339 : decode cL_law 339 = .ok (.iaload, 1) := by decide +kernel
theorem dL_law_340 : decode cL_law 340 = .ok (.invokevirtual 47, 3) := by decide +kernel
theorem dL_law_343 : decode cL_law 343 = .ok (.if_icmp .eq 153, 3) := by decide +kernel
theorem dL_law_346 : decode cL_law 346 = .ok (.iconst 0, 1) := by decide +kernel
theorem dL_law_347 : decode cL_law 347 = .ok (.ireturn, 1) := by decide +kernel
theorem dL_law_348 : decode cL_law 348 = .ok (.aload_n 1, 1) := by decide +kernel
theorem dL_law_349 : decode cL_law 349 = .ok (.aload_n 0, 1) := by decide +kernel
theorem dL_law_350 : decode cL_law 350 = .ok (.iload_n 3, 1) := by decide +kernel
theorem dL_law_351 : decode cL_law 351 = .ok (.iconst 1, 1) := by decide +kernel
theorem dL_law_352 : decode cL_law 352 = .ok (.iadd, 1) := by decide +kernel
theorem dL_law_353 : decode cL_law 353 = .ok (.iaload, 1) := by decide +kernel
end
section
set_option maxRecDepth 100000
theorem dL_law_354 : decode cL_law 354 = .ok (.invokevirtual 48, 3) := by decide +kernel
theorem dL_law_357 : decode cL_law 357 = .ok (.aload_n 2, 1) := by decide +kernel
theorem dL_law_358 : decode cL_law 358 = .ok (.aload_n 0, 1) := by decide +kernel
theorem dL_law_359 : decode cL_law 359 = .ok (.iload_n 3, 1) := by decide +kernel
theorem dL_law_360 : decode cL_law 360 = .ok (.iconst 1, 1) := by decide +kernel
theorem dL_law_361 : decode cL_law 361 = .ok (.iadd, 1) := by decide +kernel
theorem dL_law_362 : decode cL_law 362 = .ok (.iaload, 1) := by decide +kernel
theorem dL_law_363 : decode cL_law 363 = .ok (.invokevirtual 51, 3) := by decide +kernel
theorem dL_law_366 : decode cL_law 366 = .ok (.if_icmp .eq 130, 3) := by decide +kernel
theorem dL_law_369 : decode cL_law 369 = .ok (.iconst 0, 1) := by decide +kernel
theorem dL_law_370 : decode cL_law 370 = .ok (.ireturn, 1) := by decide +kernel
theorem dL_law_371 : decode cL_law 371 = .ok (.aload_n 1, 1) := by decide +kernel
theorem dL_law_372 : decode cL_law 372 = .ok (.aload_n 0, 1) := by decide +kernel
theorem dL_law_373 : decode cL_law 373 = .ok (.iload_n 3, 1) := by decide +kernel
theorem dL_law_374 : decode cL_law 374 = .ok (.iconst 1, 1) := by decide +kernel
theorem dL_law_375 : decode cL_law 375 = .ok (.iadd, 1) := by decide +kernel
theorem dL_law_376 : decode cL_law 376 = .ok (.iaload, 1) := by decide +kernel
theorem dL_law_377 : decode cL_law 377 = .ok (.invokevirtual 52, 3) := by decide +kernel
theorem dL_law_380 : decode cL_law 380 = .ok (.aload_n 2, 1) := by decide +kernel
theorem dL_law_381 : decode cL_law 381 = .ok (.aload_n 0, 1) := by decide +kernel
theorem dL_law_382 : decode cL_law 382 = .ok (.iload_n 3, 1) := by decide +kernel
theorem dL_law_383 : decode cL_law 383 = .ok (.iconst 1, 1) := by decide +kernel
theorem dL_law_384 : decode cL_law 384 = .ok (.iadd, 1) := by decide +kernel
theorem dL_law_385 : decode cL_law 385 = .ok (.iaload, 1) := by decide +kernel
theorem dL_law_386 : decode cL_law 386 = .ok (.invokevirtual 55, 3) := by decide +kernel
theorem dL_law_389 : decode cL_law 389 = .ok (.if_icmp .eq 107, 3) := by decide +kernel
theorem dL_law_392 : decode cL_law 392 = .ok (.iconst 0, 1) := by decide +kernel
theorem dL_law_393 : decode cL_law 393 = .ok (.ireturn, 1) := by decide +kernel
theorem dL_law_394 : decode cL_law 394 = .ok (.aload_n 1, 1) := by decide +kernel
theorem dL_law_395 : decode cL_law 395 = .ok (.aload_n 0, 1) := by decide +kernel
theorem dL_law_396 : decode cL_law 396 = .ok (.iload_n 3, 1) := by decide +kernel
theorem dL_law_397 : decode cL_law 397 = .ok (.iconst 1, 1) := by decide +kernel
theorem dL_law_398 : decode cL_law 398 = .ok (.iadd, 1) := by decide +kernel
theorem dL_law_399 : decode cL_law 399 = .ok (.iaload, 1) := by decide +kernel
theorem dL_law_400 : decode cL_law 400 = .ok (.invokevirtual 56, 3) := by decide +kernel
theorem dL_law_403 : decode cL_law 403 = .ok (.aload_n 2, 1) := by decide +kernel
theorem dL_law_404 : decode cL_law 404 = .ok (.aload_n 0, 1) := by decide +kernel
theorem dL_law_405 : decode cL_law 405 = .ok (.iload_n 3, 1) := by decide +kernel
theorem dL_law_406 : decode cL_law 406 = .ok (.iconst 1, 1) := by decide +kernel
theorem dL_law_407 : decode cL_law 407 = .ok (.iadd, 1) := by decide +kernel
theorem dL_law_408 : decode cL_law 408 = .ok (.iaload, 1) := by decide +kernel
theorem dL_law_409 : decode cL_law 409 = .ok (.invokevirtual 59, 3) := by decide +kernel
theorem dL_law_412 : decode cL_law 412 = .ok (.if_icmp .eq 84, 3) := by decide +kernel
theorem dL_law_415 : decode cL_law 415 = .ok (.iconst 0, 1) := by decide +kernel
theorem dL_law_416 : decode cL_law 416 = .ok (.ireturn, 1) := by decide +kernel
theorem dL_law_417 : decode cL_law 417 = .ok (.aload_n 1, 1) := by decide +kernel
theorem dL_law_418 : decode cL_law 418 = .ok (.aload_n 0, 1) := by decide +kernel
theorem dL_law_419 : decode cL_law 419 = .ok (.iload_n 3, 1) := by decide +kernel
theorem dL_law_420 : decode cL_law 420 = .ok (.iconst 1, 1) := by decide +kernel
theorem dL_law_421 : decode cL_law 421 = .ok (.iadd, 1) := by decide +kernel
theorem dL_law_422 : decode cL_law 422 = .ok (.iaload, 1) := by decide +kernel
theorem dL_law_423 : decode cL_law 423 = .ok (.invokevirtual 60, 3) := by decide +kernel
theorem dL_law_426 : decode cL_law 426 = .ok (.aload_n 2, 1) := by decide +kernel
theorem dL_law_427 : decode cL_law 427 = .ok (.aload_n 0, 1) := by decide +kernel
theorem dL_law_428 : decode cL_law 428 = .ok (.iload_n 3, 1) := by decide +kernel
theorem dL_law_429 : decode cL_law 429 = .ok (.iconst 1, 1) := by decide +kernel
end
section
set_option maxRecDepth 100000
theorem dL_law_430 : decode cL_law 430 = .ok (.iadd, 1) := by decide +kernel
theorem dL_law_431 : decode cL_law 431 = .ok (.iaload, 1) := by decide +kernel
theorem dL_law_432 : decode cL_law 432 = .ok (.invokevirtual 63, 3) := by decide +kernel
theorem dL_law_435 : decode cL_law 435 = .ok (.if_icmp .eq 61, 3) := by decide +kernel
theorem dL_law_438 : decode cL_law 438 = .ok (.iconst 0, 1) := by decide +kernel
theorem dL_law_439 : decode cL_law 439 = .ok (.ireturn, 1) := by decide +kernel
theorem dL_law_440 : decode cL_law 440 = .ok (.aload_n 1, 1) := by decide +kernel
theorem dL_law_441 : decode cL_law 441 = .ok (.aload_n 0, 1) := by decide +kernel
theorem dL_law_442 : decode cL_law 442 = .ok (.iload_n 3, 1) := by decide +kernel
theorem dL_law_443 : decode cL_law 443 = .ok (.iconst 1, 1) := by decide +kernel
theorem dL_law_444 : decode cL_law 444 = .ok (.iadd, 1) := by decide +kernel
theorem dL_law_445 : decode cL_law 445 = .ok (.iaload, 1) := by decide +kernel
theorem dL_law_446 : decode cL_law 446 = .ok (.aload_n 0, 1) := by decide +kernel
theorem dL_law_447 : decode cL_law 447 = .ok (.iload_n 3, 1) := by decide +kernel
theorem dL_law_448 : decode cL_law 448 = .ok (.iconst 2, 1) := by decide +kernel
theorem dL_law_449 : decode cL_law 449 = .ok (.iadd, 1) := by decide +kernel
theorem dL_law_450 : decode cL_law 450 = .ok (.iaload, 1) := by decide +kernel
theorem dL_law_451 : decode cL_law 451 = .ok (.aload_n 0, 1) := by decide +kernel
theorem dL_law_452 : decode cL_law 452 = .ok (.iload_n 3, 1) := by decide +kernel
theorem dL_law_453 : decode cL_law 453 = .ok (.iconst 3, 1) := by decide +kernel
theorem dL_law_454 : decode cL_law 454 = .ok (.iadd, 1) := by decide +kernel
theorem dL_law_455 : decode cL_law 455 = .ok (.iaload, 1) := by decide +kernel
theorem dL_law_456 : decode cL_law 456 = .ok (.invokevirtual 64, 3) := by decide +kernel
theorem dL_law_459 : decode cL_law 459 = .ok (.aload_n 2, 1) := by decide +kernel
theorem dL_law_460 : decode cL_law 460 = .ok (.aload_n 0, 1) := by decide +kernel
theorem dL_law_461 : decode cL_law 461 = .ok (.iload_n 3, 1) := by decide +kernel
theorem dL_law_462 : decode cL_law 462 = .ok (.iconst 1, 1) := by decide +kernel
theorem dL_law_463 : decode cL_law 463 = .ok (.iadd, 1) := by decide +kernel
theorem dL_law_464 : decode cL_law 464 = .ok (.iaload, 1) := by decide +kernel
theorem dL_law_465 : decode cL_law 465 = .ok (.aload_n 0, 1) := by decide +kernel
theorem dL_law_466 : decode cL_law 466 = .ok (.iload_n 3, 1) := by decide +kernel
theorem dL_law_467 : decode cL_law 467 = .ok (.iconst 2, 1) := by decide +kernel
theorem dL_law_468 : decode cL_law 468 = .ok (.iadd, 1) := by decide +kernel
theorem dL_law_469 : decode cL_law 469 = .ok (.iaload, 1) := by decide +kernel
theorem dL_law_470 : decode cL_law 470 = .ok (.aload_n 0, 1) := by decide +kernel
theorem dL_law_471 : decode cL_law 471 = .ok (.iload_n 3, 1) := by decide +kernel
theorem dL_law_472 : decode cL_law 472 = .ok (.iconst 3, 1) := by decide +kernel
theorem dL_law_473 : decode cL_law 473 = .ok (.iadd, 1) := by decide +kernel
theorem dL_law_474 : decode cL_law 474 = .ok (.iaload, 1) := by decide +kernel
theorem dL_law_475 : decode cL_law 475 = .ok (.invokevirtual 67, 3) := by decide +kernel
theorem dL_law_478 : decode cL_law 478 = .ok (.if_icmp .eq 18, 3) := by decide +kernel
theorem dL_law_481 : decode cL_law 481 = .ok (.iconst 0, 1) := by decide +kernel
theorem dL_law_482 : decode cL_law 482 = .ok (.ireturn, 1) := by decide +kernel
theorem dL_law_483 : decode cL_law 483 = .ok (.aload_n 1, 1) := by decide +kernel
theorem dL_law_484 : decode cL_law 484 = .ok (.invokevirtual 68, 3) := by decide +kernel
theorem dL_law_487 : decode cL_law 487 = .ok (.aload_n 2, 1) := by decide +kernel
theorem dL_law_488 : decode cL_law 488 = .ok (.invokevirtual 72, 3) := by decide +kernel
theorem dL_law_491 : decode cL_law 491 = .ok (.if_icmp .eq 5, 3) := by decide +kernel
theorem dL_law_494 : decode cL_law 494 = .ok (.iconst 0, 1) := by decide +kernel
theorem dL_law_495 : decode cL_law 495 = .ok (.ireturn, 1) := by decide +kernel
theorem dL_law_496 : decode cL_law 496 = .ok (.iinc 3 4, 3) := by decide +kernel
theorem dL_law_499 : decode cL_law 499 = .ok (.goto (-481), 3) := by decide +kernel
theorem dL_law_502 : decode cL_law 502 = .ok (.iconst 1, 1) := by decide +kernel
theorem dL_law_503 : decode cL_law 503 = .ok (.ireturn, 1) := by decide +kernel
end
section
/-! ===== Int32 by its bits: bt x i ===== -/
def bt (x : Int32) (i : Nat) : Bool := x.toBitVec.getLsbD i
theorem b_ext {x y : Int32} (h : ∀ i, i < 32 → bt x i = bt y i) : x = y := Int32.toBitVec_inj.mp (BitVec.eq_of_getLsbD_eq (fun i hi => h i hi))
theorem b_or (x y : Int32) (i : Nat) : bt (x ||| y) i = (bt x i || bt y i) := by unfold bt; rw [Int32.toBitVec_or, BitVec.getLsbD_or]
theorem b_and (x y : Int32) (i : Nat) : bt (x &&& y) i = (bt x i && bt y i) := by unfold bt; rw [Int32.toBitVec_and, BitVec.getLsbD_and]
theorem b_xor (x y : Int32) (i : Nat) : bt (x ^^^ y) i = (bt x i ^^ bt y i) := by unfold bt; rw [Int32.toBitVec_xor, BitVec.getLsbD_xor]
theorem b_big {x : Int32} {i : Nat} (h : 32 ≤ i) : bt x i = false := BitVec.getLsbD_of_ge _ _ h
theorem b_255 (i : Nat) : bt 255 i = decide (i < 8) := by
  rcases Nat.lt_or_ge i 32 with h | h
  · exact (by decide +kernel : ∀ i, i < 32 → bt 255 i = decide (i < 8)) i h
  · rw [b_big h, decide_eq_false (by omega)]
theorem b_65535 (i : Nat) : bt 65535 i = decide (i < 16) := by
  rcases Nat.lt_or_ge i 32 with h | h
  · exact (by decide +kernel : ∀ i, i < 32 → bt 65535 i = decide (i < 16)) i h
  · rw [b_big h, decide_eq_false (by omega)]
theorem b_m1 : ∀ i, i < 32 → bt (-1) i = true := by decide +kernel
theorem b_0 (i : Nat) : bt 0 i = false := BitVec.getLsbD_zero
theorem s_l : ∀ n, n < 32 → ((nI n &&& 31).toBitVec.smod 32).toNat = n := by decide +kernel
theorem s_u : ∀ n, n < 32 → (((nI n).toUInt32 &&& Int32.toUInt32 31).toBitVec % 32).toNat = n := by decide +kernel
theorem b_shl (n : Nat) (hn : n < 32) (x : Int32) {i : Nat} (hi : i < 32) : bt (x <<< (nI n &&& 31)) i = (decide (n ≤ i) && bt x (i - n)) := by
  unfold bt
  rw [Int32.toBitVec_shiftLeft]
  show (x.toBitVec <<< ((nI n &&& 31).toBitVec.smod 32).toNat).getLsbD i = _
  rw [s_l n hn, BitVec.getLsbD_shiftLeft]
  rcases Nat.lt_or_ge i n with h | h
  · simp [h, Nat.not_le.mpr h]
  · simp [hi, h, Nat.not_lt.mpr h]
theorem b_ushr (n : Nat) (hn : n < 32) (x : Int32) (i : Nat) : bt ((x.toUInt32 >>> ((nI n).toUInt32 &&& Int32.toUInt32 31)).toInt32) i = bt x (n + i) := by
  show (x.toUInt32 >>> ((nI n).toUInt32 &&& Int32.toUInt32 31)).toBitVec.getLsbD i = x.toUInt32.toBitVec.getLsbD (n + i)
  rw [UInt32.toBitVec_shiftRight]
  show (x.toUInt32.toBitVec >>> (((nI n).toUInt32 &&& Int32.toUInt32 31).toBitVec % 32).toNat).getLsbD i = _
  rw [s_u n hn, BitVec.getLsbD_ushiftRight]
theorem b_sshr (n : Nat) (hn : n < 32) (x : Int32) {i : Nat} (hi : i < 32) : bt (x >>> (nI n &&& 31)) i = if n + i < 32 then bt x (n + i) else bt x 31 := by
  unfold bt
  rw [Int32.toBitVec_shiftRight]
  show (x.toBitVec.sshiftRight ((nI n &&& 31).toBitVec.smod 32).toNat).getLsbD i = _
  rw [s_l n hn, BitVec.getLsbD_sshiftRight, BitVec.msb_eq_getLsbD_last]
  simp [hi]
theorem b_shl8 (x : Int32) {i : Nat} (hi : i < 32) : bt (x <<< ((8 : Int32) &&& 31)) i = (decide (8 ≤ i) && bt x (i - 8)) := b_shl 8 (by omega) x hi
theorem b_shl16 (x : Int32) {i : Nat} (hi : i < 32) : bt (x <<< ((16 : Int32) &&& 31)) i = (decide (16 ≤ i) && bt x (i - 16)) := b_shl 16 (by omega) x hi
theorem b_shl24 (x : Int32) {i : Nat} (hi : i < 32) : bt (x <<< ((24 : Int32) &&& 31)) i = (decide (24 ≤ i) && bt x (i - 24)) := b_shl 24 (by omega) x hi
theorem b_sshr8 (x : Int32) {i : Nat} (hi : i < 32) : bt (x >>> ((8 : Int32) &&& 31)) i = if 8 + i < 32 then bt x (8 + i) else bt x 31 := b_sshr 8 (by omega) x hi
end
section
/-! rows of our own over the kit's: bundles GC (what stands all through a method), GI (the world now), functional contracts GMi, GMv -/
abbrev vwCl : List vw_C := [(RX0, TX0, 10), (RX1, TX1, 5)]
abbrev rmD (k : Nat) : Room := { frames := k, cells := 0, slots := 0, locals := 30 * k }
def GI (D : va_G) (A : Nat → Prop) (H0 : Heap) (ws : va_W) (H : Heap) (locs : List Loc) : Prop := va_P D vwCl ws H ∧ va_D A ws ∧ va_S A H0 H locs
def GC (own : String) (tys : List (ClassId × FieldType)) (D : va_G) (A : Nat → Prop) (p : Program) (s : State) (m : MethodId) (args : Array Value) (c : Code) (cc : ByteArray) (nL : Nat) : Prop := p.tables.exec = Jvm.exec ∧ c.code = cc ∧ c.maxLocals = nL ∧ s.vm.findClass own = some m.cls ∧ (∀ w ∈ lw_all, w.before args s = true) ∧ va_K D vwCl tys s ∧ ∀ q : Nat, s.heap.size ≤ q → A q
def gPre (D : va_G) (tys : List (ClassId × FieldType)) (ws : va_W) (sz : Nat) (U : State) : Prop := U.heap.size = sz ∧ va_P D vwCl ws U.heap ∧ va_K D vwCl tys U ∧ va_D (fun _ => True) ws
def gB (D : va_G) (tys : List (ClassId × FieldType)) (A : Nat → Prop) (ws : va_W) (_ : Unit) (t : State) : Prop := va_P D vwCl ws t.heap ∧ va_K D vwCl tys t ∧ va_D A ws
def gQi (D : va_G) (tys : List (ClassId × FieldType)) (A : Nat → Prop) (ws : va_W) (r : Int32) : Array Value → State → Outcome → State → Prop := va_Qi (fun (v : Int32) (_ : Unit) => v = r) (gB D tys A ws) A
def gQv (D : va_G) (tys : List (ClassId × FieldType)) (A : Nat → Prop) (ws : va_W) : Array Value → State → Outcome → State → Prop := va_Qv (fun (_ : Unit) => True) (gB D tys A ws) A
/-- a contract with an int (or boolean) answer: av at ws0 answers r and leaves ws1 -/
def GMi (l : Launch) (y : MethodName) (w : List Cond) (rm : Room) (D : va_G) (tys : List (ClassId × FieldType)) (ws0 : va_W) (av : List Value) (ws1 : va_W) (r : Int32) : Prop := ∀ sz : Nat, Met l y w rm (va_Pc av (gPre D tys ws0 sz)) (gQi D tys (va_A ws0 sz) ws1 r) 0 0 (va_A ws0 sz)
/-- a contract of a void method -/
def GMv (l : Launch) (y : MethodName) (w : List Cond) (rm : Room) (D : va_G) (tys : List (ClassId × FieldType)) (ws0 : va_W) (av : List Value) (ws1 : va_W) : Prop := ∀ sz : Nat, Met l y w rm (va_Pc av (gPre D tys ws0 sz)) (gQv D tys (va_A ws0 sz) ws1) 0 0 (va_A ws0 sz)
theorem GMi.of {l : Launch} {y : MethodName} {cc : ByteArray} {nL : Nat} {rt : FieldType} {rm : Room} {D : va_G} {tys : List (ClassId × FieldType)} {ws0 ws1 : va_W} {av : List Value} {r : Int32} (hy : plainName y.cls = true) (hav : (lg_sl av).length ≤ nL)
    (body : ∀ (p : Program) (e : Env) (s : State) (m : MethodId) (args : Array Value) (below : List Frame) (meth : Method) (c : Code) (A : Nat → Prop) (ls : Array Slot), GC y.cls tys D A p s m args c cc nL → meth.sig.returnType = some rt → meth.locks = false → GI D A s.heap ws0 s.heap [] → lv_has ls nL (lv_args 0 av) → W p l e rm s m args below meth c s.heap [] 0 0 (MQ below (gQi D tys A ws1 r) args s 0 0 A) (F0 m 0 ls [])) : GMi l y (ws_ y cc nL (some rt)) rm D tys ws0 av ws1 r := by
  intro sz
  refine Met.ofW (cc := cc) (maxL := nL) (ret := some rt) hy rfl ?_
  intro p e s m args below meth c s₁ B hml hv
  obtain ⟨rfl, hsz, hP, hK, hD0⟩ := hv
  have hts := atoms_spec (ws := ws_ y cc nL (some rt)) B.pre
  have hts : ∀ w ∈ lw_all, w.before _ s = true := fun w h => hts w (List.mem_cons_of_mem _ h)
  have hown : s.vm.findClass y.cls = some m.cls := findClass_of_methodNamed B.named
  subst hsz
  have hl := lv_entry av (n := nL) hav
  rw [lg_entry_eq]
  exact body p e s m _ below meth c (va_A ws0 s.heap.size) _ ⟨B.exec, B.bytes, hml, hown, hts, hK, fun q h => Or.inr h⟩ B.returns B.notSynchronized ⟨hP, hD0.self, va_S.rf⟩ hl
theorem GMv.of {l : Launch} {y : MethodName} {cc : ByteArray} {nL : Nat} {rm : Room} {D : va_G} {tys : List (ClassId × FieldType)} {ws0 ws1 : va_W} {av : List Value} (hy : plainName y.cls = true) (hav : (lg_sl av).length ≤ nL)
    (body : ∀ (p : Program) (e : Env) (s : State) (m : MethodId) (args : Array Value) (below : List Frame) (meth : Method) (c : Code) (A : Nat → Prop) (ls : Array Slot), GC y.cls tys D A p s m args c cc nL → meth.sig.returnType = none → meth.locks = false → GI D A s.heap ws0 s.heap [] → lv_has ls nL (lv_args 0 av) → W p l e rm s m args below meth c s.heap [] 0 0 (MQ below (gQv D tys A ws1) args s 0 0 A) (F0 m 0 ls [])) : GMv l y (ws_ y cc nL none) rm D tys ws0 av ws1 := by
  intro sz
  refine Met.ofW (cc := cc) (maxL := nL) (ret := none) hy rfl ?_
  intro p e s m args below meth c s₁ B hml hv
  obtain ⟨rfl, hsz, hP, hK, hD0⟩ := hv
  have hts := atoms_spec (ws := ws_ y cc nL none) B.pre
  have hts : ∀ w ∈ lw_all, w.before _ s = true := fun w h => hts w (List.mem_cons_of_mem _ h)
  have hown : s.vm.findClass y.cls = some m.cls := findClass_of_methodNamed B.named
  subst hsz
  have hl := lv_entry av (n := nL) hav
  rw [lg_entry_eq]
  exact body p e s m _ below meth c (va_A ws0 s.heap.size) _ ⟨B.exec, B.bytes, hml, hown, hts, hK, fun q h => Or.inr h⟩ B.returns B.notSynchronized ⟨hP, hD0.self, va_S.rf⟩ hl
section GR
variable {p : Program} {l : Launch} {e : Env} {R : Room} {s : State} {m : MethodId} {args : Array Value} {below : List Frame} {meth : Method} {c : Code} {H : Heap} {locs : List Loc} {cells slots : Nat} {Q : State → Prop}
variable {cc : ByteArray} {pc : Nat} {ls : Array Slot} {rest : List Value} {own : String} {tys : List (ClassId × FieldType)} {D : va_G} {A : Nat → Prop} {nL : Nat} {ws ws1 : va_W} {r : Int32}
theorem g_iret (K : GC own tys D A p s m args c cc nL) (hr : meth.sig.returnType = some .int) (hlk : meth.locks = false) (hI : GI D A s.heap ws H locs) {v : Int32} (hw : ws = ws1) (hv : v = r) (hdg : decode cc pc = .ok (.ireturn, 1)) : W p l e R s m args below meth c H locs 0 0 (MQ below (gQi D tys A ws1 r) args s 0 0 A) (F0 m pc ls [.int v]) := by
  obtain ⟨hE, hB, hml, hown, hts, hK, hA⟩ := K
  obtain ⟨hP, hD, hS⟩ := hI
  subst hw
  subst hv
  exact W.iret hE hB hr (fun t ht hW => ⟨⟨v, (), rfl, rfl, by rw [ht]; exact hP, va_K.moved hW.alike hK, hD⟩, hS.F ht⟩) hS.2.2 hdg hlk
theorem g_zret (K : GC own tys D A p s m args c cc nL) (hr : meth.sig.returnType = some .boolean) (hlk : meth.locks = false) (hI : GI D A s.heap ws H locs) {v : Int32} (hn : narrow .boolean (.int v) = .int v) (hw : ws = ws1) (hv : v = r) (hdg : decode cc pc = .ok (.ireturn, 1)) : W p l e R s m args below meth c H locs 0 0 (MQ below (gQi D tys A ws1 r) args s 0 0 A) (F0 m pc ls [.int v]) := by
  obtain ⟨hE, hB, hml, hown, hts, hK, hA⟩ := K
  obtain ⟨hP, hD, hS⟩ := hI
  subst hw
  subst hv
  exact W.zret hE hB hr hn (fun t ht hW => ⟨⟨v, (), rfl, rfl, by rw [ht]; exact hP, va_K.moved hW.alike hK, hD⟩, hS.F ht⟩) hS.2.2 hdg hlk
theorem g_vret (K : GC own tys D A p s m args c cc nL) (hr : meth.sig.returnType = none) (hlk : meth.locks = false) (hI : GI D A s.heap ws H locs) (hw : ws = ws1) (hdg : decode cc pc = .ok (.return_, 1)) : W p l e R s m args below meth c H locs 0 0 (MQ below (gQv D tys A ws1) args s 0 0 A) (F0 m pc ls []) := by
  obtain ⟨hE, hB, hml, hown, hts, hK, hA⟩ := K
  obtain ⟨hP, hD, hS⟩ := hI
  subst hw
  exact W.vret hE hB hr (fun t ht hW => ⟨⟨(), rfl, trivial, by rw [ht]; exact hP, va_K.moved hW.alike hK, hD⟩, hS.F ht⟩) hS.2.2 hdg hlk
theorem g_free (hA : ∀ q : Nat, s.heap.size ≤ q → A q) (hI : GI D A s.heap ws H locs) : ∀ q : Nat, va_A ws H.size q → A q := by
  obtain ⟨hP, hD, hS⟩ := hI
  rintro q (⟨k, e, h⟩ | h)
  · exact hD.2 k _ h
  · exact hA q (Nat.le_trans hS.1 h)
theorem g_calli (K : GC own tys D A p s m args c cc nL) (hI : GI D A s.heap ws H locs) {y : MethodName} {code : ByteArray} {L idx n o ci q0 : Nat} {rt : FieldType} {rm : Room} {C : String} {As st0 : List Value} {kq : vw_C} {fs : List Value} {v : Int32}
    (hM : GMi l y (ws_ y code L (some rt)) rm D tys ws (.ref o :: As) ws1 r) (hv : r = v) (hG : GoodIn lw_all (wsV own idx C y (ws_ y code L (some rt))))
    (hd : y.cls = C ∧ y.cls ≠ "java/lang/invoke/MethodHandle" ∧ y.cls ≠ "java/lang/invoke/VarHandle" ∧ (parseMethodDescriptor y.desc).map (fun d => d.parameters.length) = some n)
    (hrm : rm.cells = 0 ∧ rm.slots = 0) (hc : vwCl[ci]? = some kq) (hkC : kq.1 = C) (he : ws[q0]? = some (o, .inr (ci, fs))) (hn : As.length = n) (hst : st0 = As.reverse ++ .ref o :: rest) (hls : ls.size = nL)
    (hR : rm.frames + 1 ≤ R.frames ∧ 8 + (L + 11) + rm.locals ≤ R.locals) (hroom : (rest.map fun v => v.category).sum ≤ 8) (hf : cells ≤ R.cells ∧ slots ≤ R.slots) (hdg : decode cc pc = .ok (.invokevirtual idx, 3))
    (kk : ∀ (H : Heap) (locs : List Loc), GI D A s.heap ws1 H locs → W p l e R s m args below meth c H locs cells slots Q (F0 m (pc + 3) ls (.int v :: rest))) : W p l e R s m args below meth c H locs cells slots Q (F0 m pc ls st0) := by
  obtain ⟨hE, hB, hml, hown, hts, hK, hA⟩ := K
  have hFc := g_free hA hI
  obtain ⟨hP, hD, hS⟩ := hI
  subst hkC
  refine va_calli (va_runV (As := As) (rest := rest) ⟨hE, hB, hml, hown, hts⟩ (hM H.size) (cwV n hts hG rfl hrm.1 hrm.2 hd hR) ⟨fun a U g mk q => by obtain ⟨q0, q1, qP, qK, qD⟩ := q; exact ⟨q0, q1, qP, va_K.moved (u := U) (U := U.calling g mk a) (Vm.Alike.refl U.vm) qK, qD⟩, va_recv hK hP hc he, fun U hU hW => ⟨rfl, by rw [hU], by rw [hU]; exact hP, va_K.moved hW.alike hK, hD.weaken (fun _ _ _ _ => trivial)⟩⟩ rfl hn hls hst (lv_room hroom) hdg hf) hS (fun q _ h => hFc q h) hFc (fun v1 u t H1 locs ht hvm hw hB1 hz1 hk1 hS => ?_)
  obtain ⟨hP1, hK1, hD1⟩ := hB1
  rw [ht] at hP1
  have hw2 : v1 = v := hw.trans hv
  subst hw2
  exact kk H1 locs ⟨hP1, hD1.weaken (fun _ q _ h => hFc q.1 h), hS⟩
theorem g_callv (K : GC own tys D A p s m args c cc nL) (hI : GI D A s.heap ws H locs) {y : MethodName} {code : ByteArray} {L idx n o ci q0 : Nat} {rm : Room} {C : String} {As st0 : List Value} {kq : vw_C} {fs : List Value}
    (hM : GMv l y (ws_ y code L none) rm D tys ws (.ref o :: As) ws1) (hG : GoodIn lw_all (wsV own idx C y (ws_ y code L none)))
    (hd : y.cls = C ∧ y.cls ≠ "java/lang/invoke/MethodHandle" ∧ y.cls ≠ "java/lang/invoke/VarHandle" ∧ (parseMethodDescriptor y.desc).map (fun d => d.parameters.length) = some n)
    (hrm : rm.cells = 0 ∧ rm.slots = 0) (hc : vwCl[ci]? = some kq) (hkC : kq.1 = C) (he : ws[q0]? = some (o, .inr (ci, fs))) (hn : As.length = n) (hst : st0 = As.reverse ++ .ref o :: rest) (hls : ls.size = nL)
    (hR : rm.frames + 1 ≤ R.frames ∧ 8 + (L + 11) + rm.locals ≤ R.locals) (hroom : (rest.map fun v => v.category).sum ≤ 8) (hf : cells ≤ R.cells ∧ slots ≤ R.slots) (hdg : decode cc pc = .ok (.invokevirtual idx, 3))
    (kk : ∀ (H : Heap) (locs : List Loc), GI D A s.heap ws1 H locs → W p l e R s m args below meth c H locs cells slots Q (F0 m (pc + 3) ls rest)) : W p l e R s m args below meth c H locs cells slots Q (F0 m pc ls st0) := by
  obtain ⟨hE, hB, hml, hown, hts, hK, hA⟩ := K
  have hFc := g_free hA hI
  obtain ⟨hP, hD, hS⟩ := hI
  subst hkC
  refine va_callv (va_runV (As := As) (rest := rest) ⟨hE, hB, hml, hown, hts⟩ (hM H.size) (cwV n hts hG rfl hrm.1 hrm.2 hd hR) ⟨fun a U g mk q => by obtain ⟨q0, q1, qP, qK, qD⟩ := q; exact ⟨q0, q1, qP, va_K.moved (u := U) (U := U.calling g mk a) (Vm.Alike.refl U.vm) qK, qD⟩, va_recv hK hP hc he, fun U hU hW => ⟨rfl, by rw [hU], by rw [hU]; exact hP, va_K.moved hW.alike hK, hD.weaken (fun _ _ _ _ => trivial)⟩⟩ rfl hn hls hst (lv_room hroom) hdg hf) hS (fun q _ h => hFc q h) hFc (fun u t H1 locs ht hvm hw hB1 hz1 hk1 hS => ?_)
  obtain ⟨hP1, hK1, hD1⟩ := hB1
  rw [ht] at hP1
  exact kk H1 locs ⟨hP1, hD1.weaken (fun _ q _ h => hFc q.1 h), hS⟩
/-- a static method over no cells -/
theorem g_callS (K : GC own tys D A p s m args c cc nL) (hI : GI D A s.heap ws H locs) {y : MethodName} {code : ByteArray} {L idx n : Nat} {rt : FieldType} {rm : Room} {As st0 : List Value} {v : Int32}
    (hM : GMi l y (ws_ y code L (some rt)) rm D [] [] As [] r) (hv : r = v) (hG : GoodIn lw_all (va_wsS own idx y (ws_ y code L (some rt))))
    (hd : y.cls ≠ "java/lang/invoke/MethodHandle" ∧ y.cls ≠ "java/lang/invoke/VarHandle" ∧ (parseMethodDescriptor y.desc).map (fun d => d.parameters.length) = some n)
    (hrm : rm.cells = 0 ∧ rm.slots = 0) (hn : As.length = n) (hst : st0 = As.reverse ++ rest) (hls : ls.size = nL)
    (hR : rm.frames + 1 ≤ R.frames ∧ 8 + (L + 11) + rm.locals ≤ R.locals) (hroom : (rest.map fun v => v.category).sum ≤ 8) (hf : cells ≤ R.cells ∧ slots ≤ R.slots) (hdg : decode cc pc = .ok (.invokestatic idx, 3))
    (kk : ∀ (H : Heap) (locs : List Loc), GI D A s.heap ws H locs → W p l e R s m args below meth c H locs cells slots Q (F0 m (pc + 3) ls (.int v :: rest))) : W p l e R s m args below meth c H locs cells slots Q (F0 m pc ls st0) := by
  obtain ⟨hE, hB, hml, hown, hts, hK, hA⟩ := K
  obtain ⟨hP, hD, hS⟩ := hI
  have hFc : ∀ q : Nat, va_A [] H.size q → A q := by
    rintro q (⟨k, e, h⟩ | h)
    · simp at h
    · exact hA q (Nat.le_trans hS.1 h)
  have hK0 := hK.sub (tys' := []) [] rfl
  refine va_calli (va_runS (As := As) (rest := rest) ⟨hE, hB, hml, hown, hts⟩ (hM H.size) (va_cwS n hts hG rfl hrm.1 hrm.2 hd hR) ⟨fun a U g mk q => by obtain ⟨q0, q1, qP, qK, qD⟩ := q; exact ⟨q0, q1, qP, va_K.moved (u := U) (U := U.calling g mk a) (Vm.Alike.refl U.vm) qK, qD⟩, fun U hU hW => ⟨rfl, by rw [hU], fun k q h => by simp at h, va_K.moved hW.alike hK0, ⟨fun i j p q h => by simp at h, fun k q h => by simp at h⟩⟩⟩ rfl hn hls hst (lv_room hroom) hdg hf) hS (fun q _ h => hFc q h) hFc (fun v1 u t H1 locs ht hvm hw hB1 hz1 hk1 hS => ?_)
  have hw2 : v1 = v := hw.trans hv
  subst hw2
  refine kk H1 locs ⟨hP.kept (fun k q hq => hk1 q.1 (hP k q hq).lt ?_), hD, hS⟩
  rintro (⟨k', e, h⟩ | h)
  · simp at h
  · exact absurd (hP k q hq).lt (Nat.not_lt.mpr h)
end GR
/-! numbers: nI-coded naturals on the stack -/
def upN (f : Nat → Nat) (k x : Nat) : Nat → Nat := fun j => if j = k then x else f j
theorem upN_s {f : Nat → Nat} {k x : Nat} : upN f k x k = x := if_pos rfl
theorem upN_n {f : Nat → Nat} {k x j : Nat} (h : j ≠ k) : upN f k x j = f j := if_neg h
theorem n_b8 : ∀ n, n < 128 → (nI n).toInt8.toInt32 = nI n := by decide +kernel
theorem n_upd (f : Nat → Nat) (k x : Nat) : upd (fun j => nI (f j)) k (nI x) = fun j => nI (upN f k x j) := by
  funext j
  unfold upd upN
  split <;> rfl
def bN (x : Int32) (i : Nat) : Nat := if bt x i then 1 else 0
def b1 (i : Nat) : Int32 := nI 1 <<< (nI i &&& 31)
theorem n_bt1 : ∀ i, i < 32 → bt (nI 1) i = decide (i = 0) := by decide +kernel
theorem n_bt0 : ∀ i, i < 32 → bt (nI 0) i = false := by decide +kernel
theorem n_bitE (x : Int32) {i : Nat} (hi : i < 32) : (x >>> (nI i &&& 31)) &&& nI 1 = nI (bN x i) := by
  apply b_ext
  intro j hj
  rw [b_and, n_bt1 j hj, b_sshr i hi x hj]
  by_cases h0 : j = 0
  · subst h0
    unfold bN
    cases hb : bt x i
    · simp [hi, hb, n_bt0 0 (by omega)]
    · simp [hi, hb, n_bt1 0 (by omega)]
  · unfold bN
    cases hb : bt x i
    · simp [h0, n_bt0 j hj]
    · simp [h0, n_bt1 j hj]
section NR
variable {p : Program} {l : Launch} {e : Env} {R : Room} {s : State} {m : MethodId} {args : Array Value} {below : List Frame} {meth : Method} {c : Code} {H : Heap} {locs : List Loc} {cells slots : Nat} {Q : State → Prop}
variable {cc : ByteArray} {pc : Nat} {ls : Array Slot} {rest : List Value} {a b : Nat}
theorem n_top {x y : Int32} (h : x = y) (kk : W p l e R s m args below meth c H locs cells slots Q (F0 m pc ls (.int y :: rest))) : W p l e R s m args below meth c H locs cells slots Q (F0 m pc ls (.int x :: rest)) := by
  subst h
  exact kk
theorem n_add (hE : p.tables.exec = Jvm.exec) (hB : c.code = cc) (hdg : decode cc pc = .ok (.iadd, 1)) (kk : W p l e R s m args below meth c H locs cells slots Q (F0 m (pc + 1) ls (.int (nI (a + b)) :: rest))) : W p l e R s m args below meth c H locs cells slots Q (F0 m pc ls (.int (nI b) :: .int (nI a) :: rest)) := lv_iadd hE hB hdg (by rw [nI_add]; exact kk)
theorem n_mul (hE : p.tables.exec = Jvm.exec) (hB : c.code = cc) (hdg : decode cc pc = .ok (.imul, 1)) (kk : W p l e R s m args below meth c H locs cells slots Q (F0 m (pc + 1) ls (.int (nI (a * b)) :: rest))) : W p l e R s m args below meth c H locs cells slots Q (F0 m pc ls (.int (nI b) :: .int (nI a) :: rest)) := lv_imul hE hB hdg (by rw [pk_mul]; exact kk)
theorem n_sub (hE : p.tables.exec = Jvm.exec) (hB : c.code = cc) (h : b ≤ a) (hdg : decode cc pc = .ok (.isub, 1)) (kk : W p l e R s m args below meth c H locs cells slots Q (F0 m (pc + 1) ls (.int (nI (a - b)) :: rest))) : W p l e R s m args below meth c H locs cells slots Q (F0 m pc ls (.int (nI b) :: .int (nI a) :: rest)) := lv_isub hE hB hdg (by rw [pk_sub h]; exact kk)
theorem n_and3 (hE : p.tables.exec = Jvm.exec) (hB : c.code = cc) (h : a < 2 ^ 31) (hdg : decode cc pc = .ok (.iand, 1)) (kk : W p l e R s m args below meth c H locs cells slots Q (F0 m (pc + 1) ls (.int (nI (a % 4)) :: rest))) : W p l e R s m args below meth c H locs cells slots Q (F0 m pc ls (.int (nI 3) :: .int (nI a) :: rest)) := lv_iand hE hB hdg (by rw [pk_andN (by omega) 2 (by decide)]; exact kk)
theorem n_bit {x : Int32} (hE : p.tables.exec = Jvm.exec) (hB : c.code = cc) (h : a < 32) (hdg : decode cc pc = .ok (.iand, 1)) (kk : W p l e R s m args below meth c H locs cells slots Q (F0 m (pc + 1) ls (.int (nI (bN x a)) :: rest))) : W p l e R s m args below meth c H locs cells slots Q (F0 m pc ls (.int (nI 1) :: .int (x >>> (nI a &&& 31)) :: rest)) := lv_iand hE hB hdg (by rw [n_bitE x h]; exact kk)
theorem n_shl (hE : p.tables.exec = Jvm.exec) (hB : c.code = cc) (hdg : decode cc pc = .ok (.ishl, 1)) (kk : W p l e R s m args below meth c H locs cells slots Q (F0 m (pc + 1) ls (.int (b1 a) :: rest))) : W p l e R s m args below meth c H locs cells slots Q (F0 m pc ls (.int (nI a) :: .int (nI 1) :: rest)) := lv_ishl hE hB hdg kk
theorem n_i2b (hE : p.tables.exec = Jvm.exec) (hB : c.code = cc) (h : a < 128) (hdg : decode cc pc = .ok (.i2b, 1)) (kk : W p l e R s m args below meth c H locs cells slots Q (F0 m (pc + 1) ls (.int (nI a) :: rest))) : W p l e R s m args below meth c H locs cells slots Q (F0 m pc ls (.int (nI a) :: rest)) := lv_i2b hE hB hdg (n_b8 a h) kk
theorem n_iflt {off : Int} {tgt : Nat} (hE : p.tables.exec = Jvm.exec) (hB : c.code = cc) (ha : a < 2 ^ 31) (hdg : decode cc pc = .ok (.ifCond .lt off, 3)) (ht : (pc : Int) + off = (tgt : Int)) (kf : W p l e R s m args below meth c H locs cells slots Q (F0 m (pc + 3) ls rest)) : W p l e R s m args below meth c H locs cells slots Q (F0 m pc ls (.int (nI a) :: rest)) := lv_if_lt hE hB hdg ht (fun h => absurd h (nI_pos ha)) (fun _ => kf)
theorem n_ifge {off : Int} {tgt : Nat} (hE : p.tables.exec = Jvm.exec) (hB : c.code = cc) (ha : a < 2 ^ 31) (hdg : decode cc pc = .ok (.ifCond .ge off, 3)) (ht : (pc : Int) + off = (tgt : Int)) (kt : W p l e R s m args below meth c H locs cells slots Q (F0 m tgt ls rest)) : W p l e R s m args below meth c H locs cells slots Q (F0 m pc ls (.int (nI a) :: rest)) := lv_if_ge hE hB hdg ht (fun _ => kt) (fun h => absurd (nI_pos' ha) h)
theorem n_if_eq {off : Int} {tgt : Nat} (hE : p.tables.exec = Jvm.exec) (hB : c.code = cc) (ha : a < 2 ^ 31) (hdg : decode cc pc = .ok (.ifCond .eq off, 3)) (ht : (pc : Int) + off = (tgt : Int)) (kt : a = 0 → W p l e R s m args below meth c H locs cells slots Q (F0 m tgt ls rest)) (kf : a ≠ 0 → W p l e R s m args below meth c H locs cells slots Q (F0 m (pc + 3) ls rest)) : W p l e R s m args below meth c H locs cells slots Q (F0 m pc ls (.int (nI a) :: rest)) := lv_if_eq hE hB hdg ht (fun h => kt ((nI_eq ha (by decide)).mp (h.trans nI_0.symm))) (fun h => kf (fun q => h (by rw [q]; rfl)))
theorem n_if_ne {off : Int} {tgt : Nat} (hE : p.tables.exec = Jvm.exec) (hB : c.code = cc) (ha : a < 2 ^ 31) (hdg : decode cc pc = .ok (.ifCond .ne off, 3)) (ht : (pc : Int) + off = (tgt : Int)) (kt : a ≠ 0 → W p l e R s m args below meth c H locs cells slots Q (F0 m tgt ls rest)) (kf : a = 0 → W p l e R s m args below meth c H locs cells slots Q (F0 m (pc + 3) ls rest)) : W p l e R s m args below meth c H locs cells slots Q (F0 m pc ls (.int (nI a) :: rest)) := lv_if_ne hE hB hdg ht (fun h => kt (fun q => h (by rw [q]; rfl))) (fun h => kf ((nI_eq ha (by decide)).mp (h.trans nI_0.symm)))
theorem n_if_le {off : Int} {tgt : Nat} (hE : p.tables.exec = Jvm.exec) (hB : c.code = cc) (ha : a < 2 ^ 31) (hdg : decode cc pc = .ok (.ifCond .le off, 3)) (ht : (pc : Int) + off = (tgt : Int)) (kt : a = 0 → W p l e R s m args below meth c H locs cells slots Q (F0 m tgt ls rest)) (kf : a ≠ 0 → W p l e R s m args below meth c H locs cells slots Q (F0 m (pc + 3) ls rest)) : W p l e R s m args below meth c H locs cells slots Q (F0 m pc ls (.int (nI a) :: rest)) := lv_if_le hE hB hdg ht (fun h => kt (Nat.le_zero.mp ((nI_leI ha (by decide)).mp (show nI a ≤ nI 0 from h)))) (fun h => kf (fun q => h (by rw [q]; decide)))
theorem n_ic_eq {off : Int} {tgt : Nat} (hE : p.tables.exec = Jvm.exec) (hB : c.code = cc) (ha : a < 2 ^ 31) (hb : b < 2 ^ 31) (hdg : decode cc pc = .ok (.if_icmp .eq off, 3)) (ht : (pc : Int) + off = (tgt : Int)) (kt : a = b → W p l e R s m args below meth c H locs cells slots Q (F0 m tgt ls rest)) (kf : a ≠ b → W p l e R s m args below meth c H locs cells slots Q (F0 m (pc + 3) ls rest)) : W p l e R s m args below meth c H locs cells slots Q (F0 m pc ls (.int (nI b) :: .int (nI a) :: rest)) := lv_icmp_eq hE hB hdg ht (fun h => kt ((nI_eq ha hb).mp h)) (fun h => kf (fun q => h (by rw [q])))
theorem n_ic_ne {off : Int} {tgt : Nat} (hE : p.tables.exec = Jvm.exec) (hB : c.code = cc) (ha : a < 2 ^ 31) (hb : b < 2 ^ 31) (hdg : decode cc pc = .ok (.if_icmp .ne off, 3)) (ht : (pc : Int) + off = (tgt : Int)) (kt : a ≠ b → W p l e R s m args below meth c H locs cells slots Q (F0 m tgt ls rest)) (kf : a = b → W p l e R s m args below meth c H locs cells slots Q (F0 m (pc + 3) ls rest)) : W p l e R s m args below meth c H locs cells slots Q (F0 m pc ls (.int (nI b) :: .int (nI a) :: rest)) := lv_icmp_ne hE hB hdg ht (fun h => kt (fun q => h (by rw [q]))) (fun h => kf ((nI_eq ha hb).mp h))
theorem n_ic_ge {off : Int} {tgt : Nat} (hE : p.tables.exec = Jvm.exec) (hB : c.code = cc) (ha : a < 2 ^ 31) (hb : b < 2 ^ 31) (hdg : decode cc pc = .ok (.if_icmp .ge off, 3)) (ht : (pc : Int) + off = (tgt : Int)) (kt : b ≤ a → W p l e R s m args below meth c H locs cells slots Q (F0 m tgt ls rest)) (kf : a < b → W p l e R s m args below meth c H locs cells slots Q (F0 m (pc + 3) ls rest)) : W p l e R s m args below meth c H locs cells slots Q (F0 m pc ls (.int (nI b) :: .int (nI a) :: rest)) := lv_icmp_ge hE hB hdg ht (fun h => kt ((nI_leI hb ha).mp h)) (fun h => kf (Nat.not_le.mp (fun q => h ((nI_leI hb ha).mpr q))))
theorem n_ic_lt {off : Int} {tgt : Nat} (hE : p.tables.exec = Jvm.exec) (hB : c.code = cc) (ha : a < 2 ^ 31) (hb : b < 2 ^ 31) (hdg : decode cc pc = .ok (.if_icmp .lt off, 3)) (ht : (pc : Int) + off = (tgt : Int)) (kt : a < b → W p l e R s m args below meth c H locs cells slots Q (F0 m tgt ls rest)) (kf : b ≤ a → W p l e R s m args below meth c H locs cells slots Q (F0 m (pc + 3) ls rest)) : W p l e R s m args below meth c H locs cells slots Q (F0 m pc ls (.int (nI b) :: .int (nI a) :: rest)) := lv_icmp_lt hE hB hdg ht (fun h => kt ((nI_ltI ha hb).mp h)) (fun h => kf (Nat.not_lt.mp (fun q => h ((nI_ltI ha hb).mpr q))))
theorem n_ic_gt {off : Int} {tgt : Nat} (hE : p.tables.exec = Jvm.exec) (hB : c.code = cc) (ha : a < 2 ^ 31) (hb : b < 2 ^ 31) (hdg : decode cc pc = .ok (.if_icmp .gt off, 3)) (ht : (pc : Int) + off = (tgt : Int)) (kt : b < a → W p l e R s m args below meth c H locs cells slots Q (F0 m tgt ls rest)) (kf : a ≤ b → W p l e R s m args below meth c H locs cells slots Q (F0 m (pc + 3) ls rest)) : W p l e R s m args below meth c H locs cells slots Q (F0 m pc ls (.int (nI b) :: .int (nI a) :: rest)) := lv_icmp_gt hE hB hdg ht (fun h => kt ((nI_ltI hb ha).mp h)) (fun h => kf (Nat.not_lt.mp (fun q => h ((nI_ltI hb ha).mpr q))))
end NR
section AR
variable {p : Program} {l : Launch} {e : Env} {R : Room} {s : State} {m : MethodId} {args : Array Value} {below : List Frame} {meth : Method} {c : Code} {H : Heap} {locs : List Loc} {cells slots : Nat} {Q : State → Prop}
variable {cc : ByteArray} {pc : Nat} {ls : Array Slot} {rest : List Value} {D : va_G} {A : Nat → Prop} {a : Nat} {tys : List (ClassId × FieldType)} {ws : va_W} {H0 : Heap} {cA : ClassId} {n i : Nat}
theorem n_bald {f : Nat → Nat} (hE : p.tables.exec = Jvm.exec) (hB : c.code = cc) (hK : va_K D vwCl tys s) (hP : va_P D vwCl ws H) (q0 t0 : Nat) (ha : ws[q0]? = some (a, .inl (cA, n, .inl (fun j => nI (f j))))) (ht : tys[t0]? = some (cA, .byte)) (hi : i < n) (hn : n < 2 ^ 31) (hdg : decode cc pc = .ok (.baload, 1)) (kk : W p l e R s m args below meth c H locs cells slots Q (F0 m (pc + 1) ls (.int (nI (f i)) :: rest))) : W p l e R s m args below meth c H locs cells slots Q (F0 m pc ls (.int (nI i) :: .ref a :: rest)) := by
  refine va_bald hE hB hK hP q0 t0 ha ht (vp_in_nI hi hn) hdg ?_
  rw [nI_clamp (Nat.lt_trans hi hn)]
  exact kk
theorem n_iald {f : Nat → Int32} (hE : p.tables.exec = Jvm.exec) (hB : c.code = cc) (hK : va_K D vwCl tys s) (hP : va_P D vwCl ws H) (q0 t0 : Nat) (ha : ws[q0]? = some (a, .inl (cA, n, .inl f))) (ht : tys[t0]? = some (cA, .int)) (hi : i < n) (hn : n < 2 ^ 31) (hdg : decode cc pc = .ok (.iaload, 1)) (kk : W p l e R s m args below meth c H locs cells slots Q (F0 m (pc + 1) ls (.int (f i) :: rest))) : W p l e R s m args below meth c H locs cells slots Q (F0 m pc ls (.int (nI i) :: .ref a :: rest)) := by
  refine va_iald hE hB hK hP q0 t0 ha ht (vp_in_nI hi hn) hdg ?_
  rw [nI_clamp (Nat.lt_trans hi hn)]
  exact kk
theorem n_bast {f : Nat → Nat} {x : Nat} (hE : p.tables.exec = Jvm.exec) (hB : c.code = cc) (hK : va_K D vwCl tys s) (hI : GI D A H0 ws H locs) (q0 t0 : Nat) (ha : ws[q0]? = some (a, .inl (cA, n, .inl (fun j => nI (f j))))) (ht : tys[t0]? = some (cA, .byte)) (hi : i < n) (hn : n < 2 ^ 31) (hv : x < 128) (hdg : decode cc pc = .ok (.bastore, 1)) (kk : ∀ (H : Heap) (locs : List Loc), GI D A H0 (ws.set q0 (a, .inl (cA, n, .inl (fun j => nI (upN f i x j))))) H locs → W p l e R s m args below meth c H locs cells slots Q (F0 m (pc + 1) ls rest)) : W p l e R s m args below meth c H locs cells slots Q (F0 m pc ls (.int (nI x) :: .int (nI i) :: .ref a :: rest)) := by
  obtain ⟨hP, hD, hS⟩ := hI
  refine va_bast hE hB hK hP hD hS q0 t0 ha ht (vp_in_nI hi hn) hdg (fun H1 locs1 hP1 hD1 hS1 => ?_)
  rw [nI_clamp (Nat.lt_trans hi hn), vp_nar_byte, n_b8 x hv, n_upd] at hP1 hD1
  exact kk H1 locs1 ⟨hP1, hD1, hS1⟩
theorem n_iast {f : Nat → Int32} {x : Int32} (hE : p.tables.exec = Jvm.exec) (hB : c.code = cc) (hK : va_K D vwCl tys s) (hI : GI D A H0 ws H locs) (q0 t0 : Nat) (ha : ws[q0]? = some (a, .inl (cA, n, .inl f))) (ht : tys[t0]? = some (cA, .int)) (hi : i < n) (hn : n < 2 ^ 31) (hdg : decode cc pc = .ok (.iastore, 1)) (kk : ∀ (H : Heap) (locs : List Loc), GI D A H0 (ws.set q0 (a, .inl (cA, n, .inl (upd f i x)))) H locs → W p l e R s m args below meth c H locs cells slots Q (F0 m (pc + 1) ls rest)) : W p l e R s m args below meth c H locs cells slots Q (F0 m pc ls (.int x :: .int (nI i) :: .ref a :: rest)) := by
  obtain ⟨hP, hD, hS⟩ := hI
  refine va_iast hE hB hK hP hD hS q0 t0 ha ht (vp_in_nI hi hn) hdg (fun H1 locs1 hP1 hD1 hS1 => ?_)
  rw [nI_clamp (Nat.lt_trans hi hn)] at hP1 hD1
  exact kk H1 locs1 ⟨hP1, hD1, hS1⟩
end AR
end
section
/-! pure pictures. The caches' part: (memory, tags, states, data); the logs' part: (levels, readAt, writtenAt, logSize, logCell, logOld); the reference: (memory, levels, reads, writes, values) -/
abbrev CS : Type := (Nat → Int32) × (Nat → Nat) × (Nat → Nat) × (Nat → Int32)
abbrev cM (C : CS) : Nat → Int32 := C.1
abbrev cG (C : CS) : Nat → Nat := C.2.1
abbrev cS (C : CS) : Nat → Nat := C.2.2.1
abbrev cD (C : CS) : Nat → Int32 := C.2.2.2
abbrev TS : Type := (Nat → Nat) × (Nat → Int32) × (Nat → Int32) × (Nat → Nat) × (Nat → Nat) × (Nat → Int32)
abbrev tL (T : TS) : Nat → Nat := T.1
abbrev tR (T : TS) : Nat → Int32 := T.2.1
abbrev tW (T : TS) : Nat → Int32 := T.2.2.1
abbrev tZ (T : TS) : Nat → Nat := T.2.2.2.1
abbrev tC (T : TS) : Nat → Nat := T.2.2.2.2.1
abbrev tO (T : TS) : Nat → Int32 := T.2.2.2.2.2
abbrev MS : Type := (Nat → Int32) × (Nat → Nat) × (Nat → Int32) × (Nat → Int32) × (Nat → Int32)
abbrev mM (M : MS) : Nat → Int32 := M.1
abbrev mL (M : MS) : Nat → Nat := M.2.1
abbrev mR (M : MS) : Nat → Int32 := M.2.2.1
abbrev mW (M : MS) : Nat → Int32 := M.2.2.2.1
abbrev mV (M : MS) : Nat → Int32 := M.2.2.2.2
/-- bounds of the small arrays -/
def WC (C : CS) : Prop := (∀ j, j < 16 → cG C j < 16) ∧ ∀ j, j < 16 → cS C j < 4
def WT (T : TS) : Prop := (∀ j, j < 4 → tL T j ≤ 3) ∧ (∀ j, j < 12 → tZ T j ≤ 16) ∧ ∀ j, j < 192 → tC T j < 16
def WM (M : MS) : Prop := ∀ j, j < 4 → mL M j ≤ 3
/-! caches -/
def isI (c : Int32) (n : Nat) : Nat := if c < 0 ∨ nI n ≤ c then 0 else 1
def lnO (c x : Nat) : Nat := c * 4 + x % 4
def hld (C : CS) (c x : Nat) : Nat := if cS C (lnO c x) = 0 then 0 else if cG C (lnO c x) = x then 1 else 0
def nwL (C : CS) (x : Nat) : Nat → Nat → Int32
  | 0, _ => cM C x
  | n + 1, c => if hld C c x = 0 then nwL C x n (c + 1) else if cS C (lnO c x) = 3 then cD C (lnO c x) else nwL C x n (c + 1)
def nwst (C : CS) (x : Nat) : Int32 := nwL C x 4 0
def wbk (C : CS) (ln : Nat) : CS := if cS C ln = 3 then (upd (cM C) (cG C ln) (cD C ln), C.2) else C
def stS (C : CS) (ln v : Nat) : CS := (C.1, C.2.1, upN (cS C) ln v, C.2.2.2)
def ftL (c x : Nat) : Nat → Nat → CS → Nat → CS × Nat
  | 0, _, C, sh => (C, sh)
  | n + 1, d, C, sh => if d = c then ftL c x n (d + 1) C sh else if hld C d x = 0 then ftL c x n (d + 1) C sh else ftL c x n (d + 1) (stS (wbk C (lnO d x)) (lnO d x) 1) 1
def ftE (Q : CS × Nat) (c x : Nat) : CS := (Q.1.1, upN (cG Q.1) (lnO c x) x, upN (cS Q.1) (lnO c x) (if Q.2 = 0 then 2 else 1), upd (cD Q.1) (lnO c x) (cM Q.1 x))
def ftch (C : CS) (c x : Nat) : CS := if hld C c x = 0 then ftE (ftL c x 4 0 (wbk C (lnO c x)) 0) c x else C
def stL (c x : Nat) : Nat → Nat → CS → CS
  | 0, _, C => C
  | n + 1, d, C => if d = c then stL c x n (d + 1) C else if hld C d x = 0 then stL c x n (d + 1) C else stL c x n (d + 1) (stS C (lnO d x) 0)
def stF (C : CS) (c x : Nat) (v : Int32) : CS := (C.1, C.2.1, upN (cS C) (lnO c x) 3, upd (cD C) (lnO c x) v)
def stor (C : CS) (c x : Nat) (v : Int32) : CS := stF (if cS (ftch C c x) (lnO c x) = 1 then stL c x 4 0 (ftch C c x) else ftch C c x) c x v
/-! sets -/
def rsL (f : Nat → Int32) (base : Nat) : Nat → Nat → Int32 → Int32
  | 0, _, acc => acc
  | n + 1, k, acc => rsL f base n (k + 1) (acc ||| f (base + k))
def rset (T : TS) (c : Nat) : Int32 := rsL (tR T) (c * 3) (tL T c) 0 (nI 0)
def wset (T : TS) (c : Nat) : Int32 := rsL (tW T) (c * 3) (tL T c) 0 (nI 0)
def thr (T : TS) (w d : Nat) : Int32 := if w = 0 then wset T d else wset T d ||| rset T d
def rvS (f : Nat → Int32) (c x d : Nat) (acc : Int32) : Int32 := if d = c then acc ||| nI 0 else if bN (f d) x = 0 then acc ||| nI 0 else acc ||| b1 d
def rvL (f : Nat → Int32) (c x : Nat) : Nat → Nat → Int32 → Int32
  | 0, _, acc => acc
  | n + 1, d, acc => rvL f c x n (d + 1) (rvS f c x d acc)
def rivs (T : TS) (c x w : Nat) : Int32 := rvL (thr T w) c x 4 0 (nI 0)
/-! logs -/
def bfK (T : TS) (at_ x : Nat) : Nat → Nat → Option Int32
  | 0, _ => none
  | n + 1, k => if tC T (at_ * 16 + k) = x then some (tO T (at_ * 16 + k)) else bfK T at_ x n (k + 1)
def bfL (C : CS) (T : TS) (c x : Nat) : Nat → Nat → Int32
  | 0, _ => nwst C x
  | n + 1, k => (bfK T (c * 3 + k) x (tZ T (c * 3 + k)) 0).getD (bfL C T c x n (k + 1))
def bfre (C : CS) (T : TS) (c x : Nat) : Int32 := bfL C T c x (tL T c) 0
def wrt (T : TS) (x : Nat) : Nat → Nat → Option Nat
  | 0, _ => none
  | n + 1, c => if bN (wset T c) x = 0 then wrt T x n (c + 1) else some c
def woI (o : Option Nat) : Int32 := match o with
  | none => -1
  | some c => nI c
def cmtO (C : CS) (T : TS) (x : Nat) (o : Option Nat) : Int32 := match o with
  | none => nwst C x
  | some c => bfre C T c x
def cmt (C : CS) (T : TS) (x : Nat) : Int32 := cmtO C T x (wrt T x 4 0)
def ntR (T : TS) (c x : Nat) : TS := if tL T c = 0 then T else (T.1, upd (tR T) (c * 3 + tL T c - 1) (tR T (c * 3 + tL T c - 1) ||| b1 x), T.2.2)
def lgT (T : TS) (at_ x : Nat) (old : Int32) : TS := (T.1, T.2.1, upd (tW T) at_ (tW T at_ ||| b1 x), upN (tZ T) at_ (tZ T at_ + 1), upN (tC T) (at_ * 16 + tZ T at_) x, upd (tO T) (at_ * 16 + tZ T at_) old)
def chT (C : CS) (T : TS) (c x : Nat) : TS := if tL T c = 0 then T else if bN (tW T (c * 3 + tL T c - 1)) x = 0 then lgT T (c * 3 + tL T c - 1) x (nwst C x) else T
/-! the public methods at a core c and a cell x -/
def bgT (T : TS) (c : Nat) : TS := if tL T c < 3 then (upN (tL T) c (tL T c + 1), upd (tR T) (c * 3 + tL T c) (nI 0), upd (tW T) (c * 3 + tL T c) (nI 0), upN (tZ T) (c * 3 + tL T c) 0, T.2.2.2.2) else T
def bgR (T : TS) (c : Nat) : Int32 := if tL T c < 3 then nI (tL T c + 1) else -1
def udL (T : TS) (c at_ : Nat) : Nat → CS → CS
  | 0, C => C
  | k + 1, C => udL T c at_ k (stor C c (tC T (at_ * 16 + k)) (tO T (at_ * 16 + k)))
def udC (C : CS) (T : TS) (c : Nat) : CS := udL T c (c * 3 + tL T c - 1) (tZ T (c * 3 + tL T c - 1)) C
def udT (T : TS) (c : Nat) : TS := (upN (tL T) c (tL T c - 1), T.2)
def gaL (c : Nat) : Nat → CS → TS → CS × TS
  | 0, C, T => (C, T)
  | n + 1, C, T => gaL c n (udC C T c) (udT T c)
def enL (at_ : Nat) : Nat → Nat → TS → TS
  | 0, _, T => T
  | n + 1, k, T => enL at_ n (k + 1) (if bN (tW T (at_ - 1)) (tC T (at_ * 16 + k)) = 0 then lgT T (at_ - 1) (tC T (at_ * 16 + k)) (tO T (at_ * 16 + k)) else T)
def enA (T : TS) (c : Nat) : TS := (T.1, upd (tR T) (c * 3 + tL T c - 1) (tR T (c * 3 + tL T c - 1) ||| tR T (c * 3 + tL T c)), T.2.2)
def enT (T : TS) (c : Nat) : TS := if tL (udT T c) c = 0 then udT T c else enL (c * 3 + tL (udT T c) c) (tZ T (c * 3 + tL (udT T c) c)) 0 (enA (udT T c) c)
def seeX (C : CS) (T : TS) (c x : Nat) : Int32 := if woI (wrt T x 4 0) = nI c then nwst C x else cmt C T x
def dgL (f : Nat → Int32) : Nat → Nat → Int32 → Int32
  | 0, _, acc => acc
  | n + 1, x, acc => dgL f n (x + 1) (acc + nI (x + 1) * f x)
/-! the reference -/
def mrs (M : MS) (c : Nat) : Int32 := rsL (mR M) (4 * c) (mL M c) 1 (nI 0)
def mws (M : MS) (c : Nat) : Int32 := rsL (mW M) (4 * c) (mL M c) 1 (nI 0)
def mth (M : MS) (w d : Nat) : Int32 := if w = 0 then mws M d ||| mrs M d else mws M d
def moS (f : Nat → Int32) (c x d : Nat) (acc : Int32) : Int32 := if d = c then acc else if bN (f d) x = 1 then acc ||| b1 d else acc
def moL (f : Nat → Int32) (c x : Nat) : Nat → Nat → Int32 → Int32
  | 0, _, acc => acc
  | n + 1, d, acc => moL f c x n (d + 1) (moS f c x d acc)
def moth (M : MS) (c x w : Nat) : Int32 := moL (mth M w) c x 4 0 (nI 0)
def mbgM (M : MS) (c : Nat) : MS := if mL M c = 3 then M else (M.1, upN (mL M) c (mL M c + 1), upd (mR M) (4 * c + (mL M c + 1)) (nI 0), upd (mW M) (4 * c + (mL M c + 1)) (nI 0), M.2.2.2.2)
def mbgR (M : MS) (c : Nat) : Int32 := if mL M c = 3 then -1 else nI (mL M c + 1)
def mrdA (M : MS) (c x : Nat) : MS := (M.1, M.2.1, upd (mR M) (4 * c + mL M c) (if mL M c = 0 then mR M (4 * c + mL M c) else mR M (4 * c + mL M c) ||| b1 x), M.2.2.2)
def mrdM (M : MS) (c x : Nat) : MS := if moth M c x 1 = 0 then mrdA M c x else M
def mrdR (M : MS) (c x : Nat) : Int32 := if moth M c x 1 = 0 then nI 0 else -2
def seL (M : MS) (c x : Nat) : Nat → Int32
  | 0 => mM M x
  | k + 1 => if bN (mW M (4 * c + (k + 1))) x = 1 then mV M (16 * (4 * c + (k + 1)) + x) else seL M c x k
def mput (M : MS) (c x : Nat) (v : Int32) : MS := if mL M c = 0 then (upd (mM M) x v, M.2) else (M.1, M.2.1, M.2.2.1, upd (mW M) (4 * c + mL M c) (mW M (4 * c + mL M c) ||| b1 x), upd (mV M) (16 * (4 * c + mL M c) + x) v)
def mwrM (M : MS) (c x : Nat) (v : Int32) : MS := if moth M c x 0 = 0 then mput M c x v else M
def mwrR (M : MS) (c x : Nat) : Int32 := if moth M c x 0 = 0 then nI 0 else -2
def madM (M : MS) (c x : Nat) (d : Int32) : MS := if moth M c x 0 = 0 then mput (mrdM M c x) c x (seL M c x (mL M c) + d) else M
def menL (c at_ : Nat) : Nat → Nat → MS → MS
  | 0, _, M => M
  | n + 1, x, M => menL c at_ n (x + 1) (if bN (mW M at_) x = 1 then mput M c x (mV M (16 * at_ + x)) else M)
def menD (M : MS) (c : Nat) : MS := (M.1, upN (mL M) c (mL M c - 1), M.2.2)
def menE (M : MS) (c at_ : Nat) : MS := (M.1, M.2.1, upd (mR M) (at_ - 1) (if mL M c = 0 then mR M (at_ - 1) else mR M (at_ - 1) ||| mR M at_), M.2.2.2)
def menM (M : MS) (c : Nat) : MS := menE (menL c (4 * c + mL M c) 16 0 (menD M c)) c (4 * c + mL M c)
/-! worlds -/
abbrev fsX (a : Nat → Nat) : List Value := [.ref (a 0), .ref (a 1), .ref (a 2), .ref (a 3), .ref (a 4), .ref (a 5), .ref (a 6), .ref (a 7), .ref (a 8), .ref (a 9)]
def wX (o : Nat) (a : Nat → Nat) (d : Nat → ClassId) (C : CS) (T : TS) : va_W := [(o, .inr (0, fsX a)), (a 0, .inl (d 0, 16, .inl (cM C))), (a 1, .inl (d 1, 16, .inl (fun j => nI (cG C j)))), (a 2, .inl (d 2, 16, .inl (fun j => nI (cS C j)))), (a 3, .inl (d 3, 16, .inl (cD C))), (a 4, .inl (d 4, 4, .inl (fun j => nI (tL T j)))), (a 5, .inl (d 5, 12, .inl (tR T))), (a 6, .inl (d 6, 12, .inl (tW T))), (a 7, .inl (d 7, 12, .inl (fun j => nI (tZ T j)))), (a 8, .inl (d 8, 192, .inl (fun j => nI (tC T j)))), (a 9, .inl (d 9, 192, .inl (tO T)))]
def tysX (d : Nat → ClassId) : List (ClassId × FieldType) := [(d 0, .int), (d 1, .byte), (d 2, .byte), (d 3, .int), (d 4, .byte), (d 5, .int), (d 6, .int), (d 7, .byte), (d 8, .byte), (d 9, .int)]
abbrev fsM (a : Nat → Nat) : List Value := [.ref (a 0), .ref (a 1), .ref (a 2), .ref (a 3), .ref (a 4)]
def wM (o : Nat) (a : Nat → Nat) (d : Nat → ClassId) (M : MS) : va_W := [(o, .inr (1, fsM a)), (a 0, .inl (d 0, 16, .inl (mM M))), (a 1, .inl (d 1, 4, .inl (fun j => nI (mL M j)))), (a 2, .inl (d 2, 16, .inl (mR M))), (a 3, .inl (d 3, 16, .inl (mW M))), (a 4, .inl (d 4, 256, .inl (mV M)))]
def tysM (d : Nat → ClassId) : List (ClassId × FieldType) := [(d 0, .int), (d 1, .int), (d 2, .int), (d 3, .int), (d 4, .int)]
end
section
section XMR
variable {p : Program} {l : Launch} {e : Env} {R : Room} {s : State} {m : MethodId} {args : Array Value} {below : List Frame} {meth : Method} {cd : Code} {H : Heap} {locs : List Loc} {cells slots : Nat} {Q : State → Prop}
variable {cc : ByteArray} {pc : Nat} {ls : Array Slot} {rest : List Value} {D : va_G} {A : Nat → Prop} {H0 : Heap} {o : Nat} {a : Nat → Nat} {d : Nat → ClassId} {C : CS} {T : TS} {M : MS}
theorem xg0 (hE : p.tables.exec = Jvm.exec) (hB : cd.code = cc) (hts : ∀ w ∈ lw_all, w.before args s = true) (hown : s.vm.findClass RX0 = some m.cls) (hK : va_K D vwCl (tysX d) s) (hI : GI D A H0 (wX o a d C T) H locs) (hdg : decode cc pc = .ok (.getfield 7, 3)) (kk : W p l e R s m args below meth cd H locs cells slots Q (F0 m (pc + 3) ls (.ref (a 0) :: rest))) : W p l e R s m args below meth cd H locs cells slots Q (F0 m pc ls (.ref o :: rest)) := va_get (D := D) (ci := 0) (v := .ref (a 0)) (C := RX0) (T := TX0) (N := 10) hE hB hts in_X0 hown hK hI.1 0 rfl rfl 0 (by decide) (hts _ q32) (fun _ h9 => h9) rfl hdg kk
theorem xl0 (hE : p.tables.exec = Jvm.exec) (hB : cd.code = cc) (hK : va_K D vwCl (tysX d) s) (hI : GI D A H0 (wX o a d C T) H locs) {i : Nat} (hi : i < 16) (hdg : decode cc pc = .ok (.iaload, 1)) (kk : W p l e R s m args below meth cd H locs cells slots Q (F0 m (pc + 1) ls (.int (cM C i) :: rest))) : W p l e R s m args below meth cd H locs cells slots Q (F0 m pc ls (.int (nI i) :: .ref (a 0) :: rest)) := n_iald (f := cM C) hE hB hK hI.1 1 0 rfl rfl hi (by decide) hdg kk
theorem xs0 (hE : p.tables.exec = Jvm.exec) (hB : cd.code = cc) (hK : va_K D vwCl (tysX d) s) (hI : GI D A H0 (wX o a d C T) H locs) {i : Nat} {v : Int32} (hi : i < 16) (hdg : decode cc pc = .ok (.iastore, 1)) (kk : ∀ (H : Heap) (locs : List Loc), GI D A H0 (wX o a d (upd (cM C) i v, C.2) T) H locs → W p l e R s m args below meth cd H locs cells slots Q (F0 m (pc + 1) ls rest)) : W p l e R s m args below meth cd H locs cells slots Q (F0 m pc ls (.int v :: .int (nI i) :: .ref (a 0) :: rest)) := n_iast (f := cM C) hE hB hK hI 1 0 rfl rfl hi (by decide) hdg (fun H locs hI => kk H locs hI)
theorem xg1 (hE : p.tables.exec = Jvm.exec) (hB : cd.code = cc) (hts : ∀ w ∈ lw_all, w.before args s = true) (hown : s.vm.findClass RX0 = some m.cls) (hK : va_K D vwCl (tysX d) s) (hI : GI D A H0 (wX o a d C T) H locs) (hdg : decode cc pc = .ok (.getfield 13, 3)) (kk : W p l e R s m args below meth cd H locs cells slots Q (F0 m (pc + 3) ls (.ref (a 1) :: rest))) : W p l e R s m args below meth cd H locs cells slots Q (F0 m pc ls (.ref o :: rest)) := va_get (D := D) (ci := 0) (v := .ref (a 1)) (C := RX0) (T := TX0) (N := 10) hE hB hts in_X0 hown hK hI.1 0 rfl rfl 1 (by decide) (hts _ q33) (fun _ h9 => h9) rfl hdg kk
theorem xl1 (hE : p.tables.exec = Jvm.exec) (hB : cd.code = cc) (hK : va_K D vwCl (tysX d) s) (hI : GI D A H0 (wX o a d C T) H locs) {i : Nat} (hi : i < 16) (hdg : decode cc pc = .ok (.baload, 1)) (kk : W p l e R s m args below meth cd H locs cells slots Q (F0 m (pc + 1) ls (.int (nI (cG C i)) :: rest))) : W p l e R s m args below meth cd H locs cells slots Q (F0 m pc ls (.int (nI i) :: .ref (a 1) :: rest)) := n_bald (f := cG C) hE hB hK hI.1 2 1 rfl rfl hi (by decide) hdg kk
theorem xs1 (hE : p.tables.exec = Jvm.exec) (hB : cd.code = cc) (hK : va_K D vwCl (tysX d) s) (hI : GI D A H0 (wX o a d C T) H locs) {i : Nat} {v : Nat} (hi : i < 16) (hv : v < 128) (hdg : decode cc pc = .ok (.bastore, 1)) (kk : ∀ (H : Heap) (locs : List Loc), GI D A H0 (wX o a d (C.1, upN (cG C) i v, C.2.2) T) H locs → W p l e R s m args below meth cd H locs cells slots Q (F0 m (pc + 1) ls rest)) : W p l e R s m args below meth cd H locs cells slots Q (F0 m pc ls (.int (nI v) :: .int (nI i) :: .ref (a 1) :: rest)) := n_bast (f := cG C) hE hB hK hI 2 1 rfl rfl hi (by decide) hv hdg (fun H locs hI => kk H locs hI)
theorem xg2 (hE : p.tables.exec = Jvm.exec) (hB : cd.code = cc) (hts : ∀ w ∈ lw_all, w.before args s = true) (hown : s.vm.findClass RX0 = some m.cls) (hK : va_K D vwCl (tysX d) s) (hI : GI D A H0 (wX o a d C T) H locs) (hdg : decode cc pc = .ok (.getfield 17, 3)) (kk : W p l e R s m args below meth cd H locs cells slots Q (F0 m (pc + 3) ls (.ref (a 2) :: rest))) : W p l e R s m args below meth cd H locs cells slots Q (F0 m pc ls (.ref o :: rest)) := va_get (D := D) (ci := 0) (v := .ref (a 2)) (C := RX0) (T := TX0) (N := 10) hE hB hts in_X0 hown hK hI.1 0 rfl rfl 2 (by decide) (hts _ q34) (fun _ h9 => h9) rfl hdg kk
theorem xl2 (hE : p.tables.exec = Jvm.exec) (hB : cd.code = cc) (hK : va_K D vwCl (tysX d) s) (hI : GI D A H0 (wX o a d C T) H locs) {i : Nat} (hi : i < 16) (hdg : decode cc pc = .ok (.baload, 1)) (kk : W p l e R s m args below meth cd H locs cells slots Q (F0 m (pc + 1) ls (.int (nI (cS C i)) :: rest))) : W p l e R s m args below meth cd H locs cells slots Q (F0 m pc ls (.int (nI i) :: .ref (a 2) :: rest)) := n_bald (f := cS C) hE hB hK hI.1 3 2 rfl rfl hi (by decide) hdg kk
theorem xs2 (hE : p.tables.exec = Jvm.exec) (hB : cd.code = cc) (hK : va_K D vwCl (tysX d) s) (hI : GI D A H0 (wX o a d C T) H locs) {i : Nat} {v : Nat} (hi : i < 16) (hv : v < 128) (hdg : decode cc pc = .ok (.bastore, 1)) (kk : ∀ (H : Heap) (locs : List Loc), GI D A H0 (wX o a d (C.1, C.2.1, upN (cS C) i v, C.2.2.2) T) H locs → W p l e R s m args below meth cd H locs cells slots Q (F0 m (pc + 1) ls rest)) : W p l e R s m args below meth cd H locs cells slots Q (F0 m pc ls (.int (nI v) :: .int (nI i) :: .ref (a 2) :: rest)) := n_bast (f := cS C) hE hB hK hI 3 2 rfl rfl hi (by decide) hv hdg (fun H locs hI => kk H locs hI)
theorem xg3 (hE : p.tables.exec = Jvm.exec) (hB : cd.code = cc) (hts : ∀ w ∈ lw_all, w.before args s = true) (hown : s.vm.findClass RX0 = some m.cls) (hK : va_K D vwCl (tysX d) s) (hI : GI D A H0 (wX o a d C T) H locs) (hdg : decode cc pc = .ok (.getfield 20, 3)) (kk : W p l e R s m args below meth cd H locs cells slots Q (F0 m (pc + 3) ls (.ref (a 3) :: rest))) : W p l e R s m args below meth cd H locs cells slots Q (F0 m pc ls (.ref o :: rest)) := va_get (D := D) (ci := 0) (v := .ref (a 3)) (C := RX0) (T := TX0) (N := 10) hE hB hts in_X0 hown hK hI.1 0 rfl rfl 3 (by decide) (hts _ q35) (fun _ h9 => h9) rfl hdg kk
theorem xl3 (hE : p.tables.exec = Jvm.exec) (hB : cd.code = cc) (hK : va_K D vwCl (tysX d) s) (hI : GI D A H0 (wX o a d C T) H locs) {i : Nat} (hi : i < 16) (hdg : decode cc pc = .ok (.iaload, 1)) (kk : W p l e R s m args below meth cd H locs cells slots Q (F0 m (pc + 1) ls (.int (cD C i) :: rest))) : W p l e R s m args below meth cd H locs cells slots Q (F0 m pc ls (.int (nI i) :: .ref (a 3) :: rest)) := n_iald (f := cD C) hE hB hK hI.1 4 3 rfl rfl hi (by decide) hdg kk
theorem xs3 (hE : p.tables.exec = Jvm.exec) (hB : cd.code = cc) (hK : va_K D vwCl (tysX d) s) (hI : GI D A H0 (wX o a d C T) H locs) {i : Nat} {v : Int32} (hi : i < 16) (hdg : decode cc pc = .ok (.iastore, 1)) (kk : ∀ (H : Heap) (locs : List Loc), GI D A H0 (wX o a d (C.1, C.2.1, C.2.2.1, upd (cD C) i v) T) H locs → W p l e R s m args below meth cd H locs cells slots Q (F0 m (pc + 1) ls rest)) : W p l e R s m args below meth cd H locs cells slots Q (F0 m pc ls (.int v :: .int (nI i) :: .ref (a 3) :: rest)) := n_iast (f := cD C) hE hB hK hI 4 3 rfl rfl hi (by decide) hdg (fun H locs hI => kk H locs hI)
theorem xg4 (hE : p.tables.exec = Jvm.exec) (hB : cd.code = cc) (hts : ∀ w ∈ lw_all, w.before args s = true) (hown : s.vm.findClass RX0 = some m.cls) (hK : va_K D vwCl (tysX d) s) (hI : GI D A H0 (wX o a d C T) H locs) (hdg : decode cc pc = .ok (.getfield 23, 3)) (kk : W p l e R s m args below meth cd H locs cells slots Q (F0 m (pc + 3) ls (.ref (a 4) :: rest))) : W p l e R s m args below meth cd H locs cells slots Q (F0 m pc ls (.ref o :: rest)) := va_get (D := D) (ci := 0) (v := .ref (a 4)) (C := RX0) (T := TX0) (N := 10) hE hB hts in_X0 hown hK hI.1 0 rfl rfl 4 (by decide) (hts _ q36) (fun _ h9 => h9) rfl hdg kk
theorem xl4 (hE : p.tables.exec = Jvm.exec) (hB : cd.code = cc) (hK : va_K D vwCl (tysX d) s) (hI : GI D A H0 (wX o a d C T) H locs) {i : Nat} (hi : i < 4) (hdg : decode cc pc = .ok (.baload, 1)) (kk : W p l e R s m args below meth cd H locs cells slots Q (F0 m (pc + 1) ls (.int (nI (tL T i)) :: rest))) : W p l e R s m args below meth cd H locs cells slots Q (F0 m pc ls (.int (nI i) :: .ref (a 4) :: rest)) := n_bald (f := tL T) hE hB hK hI.1 5 4 rfl rfl hi (by decide) hdg kk
theorem xs4 (hE : p.tables.exec = Jvm.exec) (hB : cd.code = cc) (hK : va_K D vwCl (tysX d) s) (hI : GI D A H0 (wX o a d C T) H locs) {i : Nat} {v : Nat} (hi : i < 4) (hv : v < 128) (hdg : decode cc pc = .ok (.bastore, 1)) (kk : ∀ (H : Heap) (locs : List Loc), GI D A H0 (wX o a d C (upN (tL T) i v, T.2)) H locs → W p l e R s m args below meth cd H locs cells slots Q (F0 m (pc + 1) ls rest)) : W p l e R s m args below meth cd H locs cells slots Q (F0 m pc ls (.int (nI v) :: .int (nI i) :: .ref (a 4) :: rest)) := n_bast (f := tL T) hE hB hK hI 5 4 rfl rfl hi (by decide) hv hdg (fun H locs hI => kk H locs hI)
theorem xg5 (hE : p.tables.exec = Jvm.exec) (hB : cd.code = cc) (hts : ∀ w ∈ lw_all, w.before args s = true) (hown : s.vm.findClass RX0 = some m.cls) (hK : va_K D vwCl (tysX d) s) (hI : GI D A H0 (wX o a d C T) H locs) (hdg : decode cc pc = .ok (.getfield 26, 3)) (kk : W p l e R s m args below meth cd H locs cells slots Q (F0 m (pc + 3) ls (.ref (a 5) :: rest))) : W p l e R s m args below meth cd H locs cells slots Q (F0 m pc ls (.ref o :: rest)) := va_get (D := D) (ci := 0) (v := .ref (a 5)) (C := RX0) (T := TX0) (N := 10) hE hB hts in_X0 hown hK hI.1 0 rfl rfl 5 (by decide) (hts _ q37) (fun _ h9 => h9) rfl hdg kk
theorem xl5 (hE : p.tables.exec = Jvm.exec) (hB : cd.code = cc) (hK : va_K D vwCl (tysX d) s) (hI : GI D A H0 (wX o a d C T) H locs) {i : Nat} (hi : i < 12) (hdg : decode cc pc = .ok (.iaload, 1)) (kk : W p l e R s m args below meth cd H locs cells slots Q (F0 m (pc + 1) ls (.int (tR T i) :: rest))) : W p l e R s m args below meth cd H locs cells slots Q (F0 m pc ls (.int (nI i) :: .ref (a 5) :: rest)) := n_iald (f := tR T) hE hB hK hI.1 6 5 rfl rfl hi (by decide) hdg kk
theorem xs5 (hE : p.tables.exec = Jvm.exec) (hB : cd.code = cc) (hK : va_K D vwCl (tysX d) s) (hI : GI D A H0 (wX o a d C T) H locs) {i : Nat} {v : Int32} (hi : i < 12) (hdg : decode cc pc = .ok (.iastore, 1)) (kk : ∀ (H : Heap) (locs : List Loc), GI D A H0 (wX o a d C (T.1, upd (tR T) i v, T.2.2)) H locs → W p l e R s m args below meth cd H locs cells slots Q (F0 m (pc + 1) ls rest)) : W p l e R s m args below meth cd H locs cells slots Q (F0 m pc ls (.int v :: .int (nI i) :: .ref (a 5) :: rest)) := n_iast (f := tR T) hE hB hK hI 6 5 rfl rfl hi (by decide) hdg (fun H locs hI => kk H locs hI)
theorem xg6 (hE : p.tables.exec = Jvm.exec) (hB : cd.code = cc) (hts : ∀ w ∈ lw_all, w.before args s = true) (hown : s.vm.findClass RX0 = some m.cls) (hK : va_K D vwCl (tysX d) s) (hI : GI D A H0 (wX o a d C T) H locs) (hdg : decode cc pc = .ok (.getfield 29, 3)) (kk : W p l e R s m args below meth cd H locs cells slots Q (F0 m (pc + 3) ls (.ref (a 6) :: rest))) : W p l e R s m args below meth cd H locs cells slots Q (F0 m pc ls (.ref o :: rest)) := va_get (D := D) (ci := 0) (v := .ref (a 6)) (C := RX0) (T := TX0) (N := 10) hE hB hts in_X0 hown hK hI.1 0 rfl rfl 6 (by decide) (hts _ q38) (fun _ h9 => h9) rfl hdg kk
theorem xl6 (hE : p.tables.exec = Jvm.exec) (hB : cd.code = cc) (hK : va_K D vwCl (tysX d) s) (hI : GI D A H0 (wX o a d C T) H locs) {i : Nat} (hi : i < 12) (hdg : decode cc pc = .ok (.iaload, 1)) (kk : W p l e R s m args below meth cd H locs cells slots Q (F0 m (pc + 1) ls (.int (tW T i) :: rest))) : W p l e R s m args below meth cd H locs cells slots Q (F0 m pc ls (.int (nI i) :: .ref (a 6) :: rest)) := n_iald (f := tW T) hE hB hK hI.1 7 6 rfl rfl hi (by decide) hdg kk
theorem xs6 (hE : p.tables.exec = Jvm.exec) (hB : cd.code = cc) (hK : va_K D vwCl (tysX d) s) (hI : GI D A H0 (wX o a d C T) H locs) {i : Nat} {v : Int32} (hi : i < 12) (hdg : decode cc pc = .ok (.iastore, 1)) (kk : ∀ (H : Heap) (locs : List Loc), GI D A H0 (wX o a d C (T.1, T.2.1, upd (tW T) i v, T.2.2.2)) H locs → W p l e R s m args below meth cd H locs cells slots Q (F0 m (pc + 1) ls rest)) : W p l e R s m args below meth cd H locs cells slots Q (F0 m pc ls (.int v :: .int (nI i) :: .ref (a 6) :: rest)) := n_iast (f := tW T) hE hB hK hI 7 6 rfl rfl hi (by decide) hdg (fun H locs hI => kk H locs hI)
theorem xg7 (hE : p.tables.exec = Jvm.exec) (hB : cd.code = cc) (hts : ∀ w ∈ lw_all, w.before args s = true) (hown : s.vm.findClass RX0 = some m.cls) (hK : va_K D vwCl (tysX d) s) (hI : GI D A H0 (wX o a d C T) H locs) (hdg : decode cc pc = .ok (.getfield 32, 3)) (kk : W p l e R s m args below meth cd H locs cells slots Q (F0 m (pc + 3) ls (.ref (a 7) :: rest))) : W p l e R s m args below meth cd H locs cells slots Q (F0 m pc ls (.ref o :: rest)) := va_get (D := D) (ci := 0) (v := .ref (a 7)) (C := RX0) (T := TX0) (N := 10) hE hB hts in_X0 hown hK hI.1 0 rfl rfl 7 (by decide) (hts _ q39) (fun _ h9 => h9) rfl hdg kk
theorem xl7 (hE : p.tables.exec = Jvm.exec) (hB : cd.code = cc) (hK : va_K D vwCl (tysX d) s) (hI : GI D A H0 (wX o a d C T) H locs) {i : Nat} (hi : i < 12) (hdg : decode cc pc = .ok (.baload, 1)) (kk : W p l e R s m args below meth cd H locs cells slots Q (F0 m (pc + 1) ls (.int (nI (tZ T i)) :: rest))) : W p l e R s m args below meth cd H locs cells slots Q (F0 m pc ls (.int (nI i) :: .ref (a 7) :: rest)) := n_bald (f := tZ T) hE hB hK hI.1 8 7 rfl rfl hi (by decide) hdg kk
theorem xs7 (hE : p.tables.exec = Jvm.exec) (hB : cd.code = cc) (hK : va_K D vwCl (tysX d) s) (hI : GI D A H0 (wX o a d C T) H locs) {i : Nat} {v : Nat} (hi : i < 12) (hv : v < 128) (hdg : decode cc pc = .ok (.bastore, 1)) (kk : ∀ (H : Heap) (locs : List Loc), GI D A H0 (wX o a d C (T.1, T.2.1, T.2.2.1, upN (tZ T) i v, T.2.2.2.2)) H locs → W p l e R s m args below meth cd H locs cells slots Q (F0 m (pc + 1) ls rest)) : W p l e R s m args below meth cd H locs cells slots Q (F0 m pc ls (.int (nI v) :: .int (nI i) :: .ref (a 7) :: rest)) := n_bast (f := tZ T) hE hB hK hI 8 7 rfl rfl hi (by decide) hv hdg (fun H locs hI => kk H locs hI)
theorem xg8 (hE : p.tables.exec = Jvm.exec) (hB : cd.code = cc) (hts : ∀ w ∈ lw_all, w.before args s = true) (hown : s.vm.findClass RX0 = some m.cls) (hK : va_K D vwCl (tysX d) s) (hI : GI D A H0 (wX o a d C T) H locs) (hdg : decode cc pc = .ok (.getfield 35, 3)) (kk : W p l e R s m args below meth cd H locs cells slots Q (F0 m (pc + 3) ls (.ref (a 8) :: rest))) : W p l e R s m args below meth cd H locs cells slots Q (F0 m pc ls (.ref o :: rest)) := va_get (D := D) (ci := 0) (v := .ref (a 8)) (C := RX0) (T := TX0) (N := 10) hE hB hts in_X0 hown hK hI.1 0 rfl rfl 8 (by decide) (hts _ q40) (fun _ h9 => h9) rfl hdg kk
theorem xl8 (hE : p.tables.exec = Jvm.exec) (hB : cd.code = cc) (hK : va_K D vwCl (tysX d) s) (hI : GI D A H0 (wX o a d C T) H locs) {i : Nat} (hi : i < 192) (hdg : decode cc pc = .ok (.baload, 1)) (kk : W p l e R s m args below meth cd H locs cells slots Q (F0 m (pc + 1) ls (.int (nI (tC T i)) :: rest))) : W p l e R s m args below meth cd H locs cells slots Q (F0 m pc ls (.int (nI i) :: .ref (a 8) :: rest)) := n_bald (f := tC T) hE hB hK hI.1 9 8 rfl rfl hi (by decide) hdg kk
theorem xs8 (hE : p.tables.exec = Jvm.exec) (hB : cd.code = cc) (hK : va_K D vwCl (tysX d) s) (hI : GI D A H0 (wX o a d C T) H locs) {i : Nat} {v : Nat} (hi : i < 192) (hv : v < 128) (hdg : decode cc pc = .ok (.bastore, 1)) (kk : ∀ (H : Heap) (locs : List Loc), GI D A H0 (wX o a d C (T.1, T.2.1, T.2.2.1, T.2.2.2.1, upN (tC T) i v, T.2.2.2.2.2)) H locs → W p l e R s m args below meth cd H locs cells slots Q (F0 m (pc + 1) ls rest)) : W p l e R s m args below meth cd H locs cells slots Q (F0 m pc ls (.int (nI v) :: .int (nI i) :: .ref (a 8) :: rest)) := n_bast (f := tC T) hE hB hK hI 9 8 rfl rfl hi (by decide) hv hdg (fun H locs hI => kk H locs hI)
theorem xg9 (hE : p.tables.exec = Jvm.exec) (hB : cd.code = cc) (hts : ∀ w ∈ lw_all, w.before args s = true) (hown : s.vm.findClass RX0 = some m.cls) (hK : va_K D vwCl (tysX d) s) (hI : GI D A H0 (wX o a d C T) H locs) (hdg : decode cc pc = .ok (.getfield 38, 3)) (kk : W p l e R s m args below meth cd H locs cells slots Q (F0 m (pc + 3) ls (.ref (a 9) :: rest))) : W p l e R s m args below meth cd H locs cells slots Q (F0 m pc ls (.ref o :: rest)) := va_get (D := D) (ci := 0) (v := .ref (a 9)) (C := RX0) (T := TX0) (N := 10) hE hB hts in_X0 hown hK hI.1 0 rfl rfl 9 (by decide) (hts _ q41) (fun _ h9 => h9) rfl hdg kk
theorem xl9 (hE : p.tables.exec = Jvm.exec) (hB : cd.code = cc) (hK : va_K D vwCl (tysX d) s) (hI : GI D A H0 (wX o a d C T) H locs) {i : Nat} (hi : i < 192) (hdg : decode cc pc = .ok (.iaload, 1)) (kk : W p l e R s m args below meth cd H locs cells slots Q (F0 m (pc + 1) ls (.int (tO T i) :: rest))) : W p l e R s m args below meth cd H locs cells slots Q (F0 m pc ls (.int (nI i) :: .ref (a 9) :: rest)) := n_iald (f := tO T) hE hB hK hI.1 10 9 rfl rfl hi (by decide) hdg kk
theorem xs9 (hE : p.tables.exec = Jvm.exec) (hB : cd.code = cc) (hK : va_K D vwCl (tysX d) s) (hI : GI D A H0 (wX o a d C T) H locs) {i : Nat} {v : Int32} (hi : i < 192) (hdg : decode cc pc = .ok (.iastore, 1)) (kk : ∀ (H : Heap) (locs : List Loc), GI D A H0 (wX o a d C (T.1, T.2.1, T.2.2.1, T.2.2.2.1, T.2.2.2.2.1, upd (tO T) i v)) H locs → W p l e R s m args below meth cd H locs cells slots Q (F0 m (pc + 1) ls rest)) : W p l e R s m args below meth cd H locs cells slots Q (F0 m pc ls (.int v :: .int (nI i) :: .ref (a 9) :: rest)) := n_iast (f := tO T) hE hB hK hI 10 9 rfl rfl hi (by decide) hdg (fun H locs hI => kk H locs hI)
theorem mg0 (hE : p.tables.exec = Jvm.exec) (hB : cd.code = cc) (hts : ∀ w ∈ lw_all, w.before args s = true) (hown : s.vm.findClass RX1 = some m.cls) (hK : va_K D vwCl (tysM d) s) (hI : GI D A H0 (wM o a d M) H locs) (hdg : decode cc pc = .ok (.getfield 7, 3)) (kk : W p l e R s m args below meth cd H locs cells slots Q (F0 m (pc + 3) ls (.ref (a 0) :: rest))) : W p l e R s m args below meth cd H locs cells slots Q (F0 m pc ls (.ref o :: rest)) := va_get (D := D) (ci := 1) (v := .ref (a 0)) (C := RX1) (T := TX1) (N := 5) hE hB hts in_X1 hown hK hI.1 0 rfl rfl 0 (by decide) (hts _ q196) (fun _ h9 => h9) rfl hdg kk
theorem ml0 (hE : p.tables.exec = Jvm.exec) (hB : cd.code = cc) (hK : va_K D vwCl (tysM d) s) (hI : GI D A H0 (wM o a d M) H locs) {i : Nat} (hi : i < 16) (hdg : decode cc pc = .ok (.iaload, 1)) (kk : W p l e R s m args below meth cd H locs cells slots Q (F0 m (pc + 1) ls (.int (mM M i) :: rest))) : W p l e R s m args below meth cd H locs cells slots Q (F0 m pc ls (.int (nI i) :: .ref (a 0) :: rest)) := n_iald (f := mM M) hE hB hK hI.1 1 0 rfl rfl hi (by decide) hdg kk
theorem ms0 (hE : p.tables.exec = Jvm.exec) (hB : cd.code = cc) (hK : va_K D vwCl (tysM d) s) (hI : GI D A H0 (wM o a d M) H locs) {i : Nat} {v : Int32} (hi : i < 16) (hdg : decode cc pc = .ok (.iastore, 1)) (kk : ∀ (H : Heap) (locs : List Loc), GI D A H0 (wM o a d (upd (mM M) i v, M.2)) H locs → W p l e R s m args below meth cd H locs cells slots Q (F0 m (pc + 1) ls rest)) : W p l e R s m args below meth cd H locs cells slots Q (F0 m pc ls (.int v :: .int (nI i) :: .ref (a 0) :: rest)) := n_iast (f := mM M) hE hB hK hI 1 0 rfl rfl hi (by decide) hdg (fun H locs hI => kk H locs hI)
theorem mg1 (hE : p.tables.exec = Jvm.exec) (hB : cd.code = cc) (hts : ∀ w ∈ lw_all, w.before args s = true) (hown : s.vm.findClass RX1 = some m.cls) (hK : va_K D vwCl (tysM d) s) (hI : GI D A H0 (wM o a d M) H locs) (hdg : decode cc pc = .ok (.getfield 13, 3)) (kk : W p l e R s m args below meth cd H locs cells slots Q (F0 m (pc + 3) ls (.ref (a 1) :: rest))) : W p l e R s m args below meth cd H locs cells slots Q (F0 m pc ls (.ref o :: rest)) := va_get (D := D) (ci := 1) (v := .ref (a 1)) (C := RX1) (T := TX1) (N := 5) hE hB hts in_X1 hown hK hI.1 0 rfl rfl 1 (by decide) (hts _ q197) (fun _ h9 => h9) rfl hdg kk
theorem ml1 (hE : p.tables.exec = Jvm.exec) (hB : cd.code = cc) (hK : va_K D vwCl (tysM d) s) (hI : GI D A H0 (wM o a d M) H locs) {i : Nat} (hi : i < 4) (hdg : decode cc pc = .ok (.iaload, 1)) (kk : W p l e R s m args below meth cd H locs cells slots Q (F0 m (pc + 1) ls (.int (nI (mL M i)) :: rest))) : W p l e R s m args below meth cd H locs cells slots Q (F0 m pc ls (.int (nI i) :: .ref (a 1) :: rest)) := n_iald (f := fun j => nI (mL M j)) hE hB hK hI.1 2 1 rfl rfl hi (by decide) hdg kk
theorem ms1 (hE : p.tables.exec = Jvm.exec) (hB : cd.code = cc) (hK : va_K D vwCl (tysM d) s) (hI : GI D A H0 (wM o a d M) H locs) {i : Nat} {v : Nat} (hi : i < 4) (hdg : decode cc pc = .ok (.iastore, 1)) (kk : ∀ (H : Heap) (locs : List Loc), GI D A H0 (wM o a d (M.1, upN (mL M) i v, M.2.2)) H locs → W p l e R s m args below meth cd H locs cells slots Q (F0 m (pc + 1) ls rest)) : W p l e R s m args below meth cd H locs cells slots Q (F0 m pc ls (.int (nI v) :: .int (nI i) :: .ref (a 1) :: rest)) := n_iast (f := fun j => nI (mL M j)) hE hB hK hI 2 1 rfl rfl hi (by decide) hdg (fun H locs hI => kk H locs (by rw [n_upd] at hI; exact hI))
theorem mg2 (hE : p.tables.exec = Jvm.exec) (hB : cd.code = cc) (hts : ∀ w ∈ lw_all, w.before args s = true) (hown : s.vm.findClass RX1 = some m.cls) (hK : va_K D vwCl (tysM d) s) (hI : GI D A H0 (wM o a d M) H locs) (hdg : decode cc pc = .ok (.getfield 16, 3)) (kk : W p l e R s m args below meth cd H locs cells slots Q (F0 m (pc + 3) ls (.ref (a 2) :: rest))) : W p l e R s m args below meth cd H locs cells slots Q (F0 m pc ls (.ref o :: rest)) := va_get (D := D) (ci := 1) (v := .ref (a 2)) (C := RX1) (T := TX1) (N := 5) hE hB hts in_X1 hown hK hI.1 0 rfl rfl 2 (by decide) (hts _ q198) (fun _ h9 => h9) rfl hdg kk
theorem ml2 (hE : p.tables.exec = Jvm.exec) (hB : cd.code = cc) (hK : va_K D vwCl (tysM d) s) (hI : GI D A H0 (wM o a d M) H locs) {i : Nat} (hi : i < 16) (hdg : decode cc pc = .ok (.iaload, 1)) (kk : W p l e R s m args below meth cd H locs cells slots Q (F0 m (pc + 1) ls (.int (mR M i) :: rest))) : W p l e R s m args below meth cd H locs cells slots Q (F0 m pc ls (.int (nI i) :: .ref (a 2) :: rest)) := n_iald (f := mR M) hE hB hK hI.1 3 2 rfl rfl hi (by decide) hdg kk
theorem ms2 (hE : p.tables.exec = Jvm.exec) (hB : cd.code = cc) (hK : va_K D vwCl (tysM d) s) (hI : GI D A H0 (wM o a d M) H locs) {i : Nat} {v : Int32} (hi : i < 16) (hdg : decode cc pc = .ok (.iastore, 1)) (kk : ∀ (H : Heap) (locs : List Loc), GI D A H0 (wM o a d (M.1, M.2.1, upd (mR M) i v, M.2.2.2)) H locs → W p l e R s m args below meth cd H locs cells slots Q (F0 m (pc + 1) ls rest)) : W p l e R s m args below meth cd H locs cells slots Q (F0 m pc ls (.int v :: .int (nI i) :: .ref (a 2) :: rest)) := n_iast (f := mR M) hE hB hK hI 3 2 rfl rfl hi (by decide) hdg (fun H locs hI => kk H locs hI)
theorem mg3 (hE : p.tables.exec = Jvm.exec) (hB : cd.code = cc) (hts : ∀ w ∈ lw_all, w.before args s = true) (hown : s.vm.findClass RX1 = some m.cls) (hK : va_K D vwCl (tysM d) s) (hI : GI D A H0 (wM o a d M) H locs) (hdg : decode cc pc = .ok (.getfield 19, 3)) (kk : W p l e R s m args below meth cd H locs cells slots Q (F0 m (pc + 3) ls (.ref (a 3) :: rest))) : W p l e R s m args below meth cd H locs cells slots Q (F0 m pc ls (.ref o :: rest)) := va_get (D := D) (ci := 1) (v := .ref (a 3)) (C := RX1) (T := TX1) (N := 5) hE hB hts in_X1 hown hK hI.1 0 rfl rfl 3 (by decide) (hts _ q199) (fun _ h9 => h9) rfl hdg kk
theorem ml3 (hE : p.tables.exec = Jvm.exec) (hB : cd.code = cc) (hK : va_K D vwCl (tysM d) s) (hI : GI D A H0 (wM o a d M) H locs) {i : Nat} (hi : i < 16) (hdg : decode cc pc = .ok (.iaload, 1)) (kk : W p l e R s m args below meth cd H locs cells slots Q (F0 m (pc + 1) ls (.int (mW M i) :: rest))) : W p l e R s m args below meth cd H locs cells slots Q (F0 m pc ls (.int (nI i) :: .ref (a 3) :: rest)) := n_iald (f := mW M) hE hB hK hI.1 4 3 rfl rfl hi (by decide) hdg kk
theorem ms3 (hE : p.tables.exec = Jvm.exec) (hB : cd.code = cc) (hK : va_K D vwCl (tysM d) s) (hI : GI D A H0 (wM o a d M) H locs) {i : Nat} {v : Int32} (hi : i < 16) (hdg : decode cc pc = .ok (.iastore, 1)) (kk : ∀ (H : Heap) (locs : List Loc), GI D A H0 (wM o a d (M.1, M.2.1, M.2.2.1, upd (mW M) i v, M.2.2.2.2)) H locs → W p l e R s m args below meth cd H locs cells slots Q (F0 m (pc + 1) ls rest)) : W p l e R s m args below meth cd H locs cells slots Q (F0 m pc ls (.int v :: .int (nI i) :: .ref (a 3) :: rest)) := n_iast (f := mW M) hE hB hK hI 4 3 rfl rfl hi (by decide) hdg (fun H locs hI => kk H locs hI)
theorem mg4 (hE : p.tables.exec = Jvm.exec) (hB : cd.code = cc) (hts : ∀ w ∈ lw_all, w.before args s = true) (hown : s.vm.findClass RX1 = some m.cls) (hK : va_K D vwCl (tysM d) s) (hI : GI D A H0 (wM o a d M) H locs) (hdg : decode cc pc = .ok (.getfield 22, 3)) (kk : W p l e R s m args below meth cd H locs cells slots Q (F0 m (pc + 3) ls (.ref (a 4) :: rest))) : W p l e R s m args below meth cd H locs cells slots Q (F0 m pc ls (.ref o :: rest)) := va_get (D := D) (ci := 1) (v := .ref (a 4)) (C := RX1) (T := TX1) (N := 5) hE hB hts in_X1 hown hK hI.1 0 rfl rfl 4 (by decide) (hts _ q200) (fun _ h9 => h9) rfl hdg kk
theorem ml4 (hE : p.tables.exec = Jvm.exec) (hB : cd.code = cc) (hK : va_K D vwCl (tysM d) s) (hI : GI D A H0 (wM o a d M) H locs) {i : Nat} (hi : i < 256) (hdg : decode cc pc = .ok (.iaload, 1)) (kk : W p l e R s m args below meth cd H locs cells slots Q (F0 m (pc + 1) ls (.int (mV M i) :: rest))) : W p l e R s m args below meth cd H locs cells slots Q (F0 m pc ls (.int (nI i) :: .ref (a 4) :: rest)) := n_iald (f := mV M) hE hB hK hI.1 5 4 rfl rfl hi (by decide) hdg kk
theorem ms4 (hE : p.tables.exec = Jvm.exec) (hB : cd.code = cc) (hK : va_K D vwCl (tysM d) s) (hI : GI D A H0 (wM o a d M) H locs) {i : Nat} {v : Int32} (hi : i < 256) (hdg : decode cc pc = .ok (.iastore, 1)) (kk : ∀ (H : Heap) (locs : List Loc), GI D A H0 (wM o a d (M.1, M.2.1, M.2.2.1, M.2.2.2.1, upd (mV M) i v)) H locs → W p l e R s m args below meth cd H locs cells slots Q (F0 m (pc + 1) ls rest)) : W p l e R s m args below meth cd H locs cells slots Q (F0 m pc ls (.int v :: .int (nI i) :: .ref (a 4) :: rest)) := n_iast (f := mV M) hE hB hK hI 5 4 rfl rfl hi (by decide) hdg (fun H locs hI => kk H locs hI)
end XMR
end
section
/-! bounds -/
theorem isI_le (c : Int32) (n : Nat) : isI c n ≤ 1 := by
  unfold isI
  split <;> omega
theorem isI_ok {j n : Nat} (h : j < n) (hn : n < 2 ^ 31) : isI (nI j) n = 1 := by
  unfold isI
  rw [if_neg]
  rintro (q | q)
  · exact nI_pos (by omega) q
  · exact nI_ge h hn q
theorem isI_cases (c : Int32) {n : Nat} (hn : n < 2 ^ 31) : isI c n = 0 ∨ ∃ j, j < n ∧ c = nI j := by
  rcases pk_ix c hn with h | h | h
  · left
    exact if_pos (Or.inl h)
  · left
    exact if_pos (Or.inr h)
  · exact Or.inr h
theorem isI_g3 (c : Int32) : nI 4 ≤ c ↔ nI 3 < c := by
  rw [Int32.le_iff_toInt_le, Int32.lt_iff_toInt_lt, nI_toInt (by decide), nI_toInt (by decide)]
  omega
theorem isI_g15 (c : Int32) : nI 16 ≤ c ↔ nI 15 < c := by
  rw [Int32.le_iff_toInt_le, Int32.lt_iff_toInt_lt, nI_toInt (by decide), nI_toInt (by decide)]
  omega
theorem n_m1 (n : Nat) : nI n + Int32.ofInt (-1) = nI n - nI 1 := by
  rw [Int32.sub_eq_add_neg]
  rfl
theorem n_dec (n : Nat) : nI (n + 1) + Int32.ofInt (-1) = nI n := pk_m1 n
theorem lnO_lt {c : Nat} (hc : c < 4) (x : Nat) : lnO c x < 16 := by
  unfold lnO
  omega
theorem hld_le (C : CS) (c x : Nat) : hld C c x ≤ 1 := by
  unfold hld
  repeat' split
  all_goals omega
theorem bN_le (x : Int32) (i : Nat) : bN x i ≤ 1 := by
  unfold bN
  split <;> omega
theorem up_lt {f : Nat → Nat} {k v B N : Nat} (hf : ∀ j, j < N → f j < B) (hv : v < B) : ∀ j, j < N → upN f k v j < B := by
  intro j hj
  unfold upN
  split
  · exact hv
  · exact hf j hj
theorem up_le {f : Nat → Nat} {k v B N : Nat} (hf : ∀ j, j < N → f j ≤ B) (hv : v ≤ B) : ∀ j, j < N → upN f k v j ≤ B := by
  intro j hj
  unfold upN
  split
  · exact hv
  · exact hf j hj
theorem WC_wbk {C : CS} (h : WC C) (ln : Nat) : WC (wbk C ln) := by
  unfold wbk
  split
  · exact h
  · exact h
theorem WC_stS {C : CS} (h : WC C) (ln : Nat) {v : Nat} (hv : v < 4) : WC (stS C ln v) := ⟨h.1, up_lt h.2 hv⟩
theorem WC_ftL {c x : Nat} : ∀ (n d : Nat) (C : CS) (sh : Nat), WC C → WC (ftL c x n d C sh).1 := by
  intro n
  induction n with
  | zero => intro d C sh h; exact h
  | succ n ih =>
    intro d C sh h
    unfold ftL
    split
    · exact ih _ _ _ h
    · split
      · exact ih _ _ _ h
      · exact ih _ _ _ (WC_stS (WC_wbk h _) _ (by omega))
theorem WC_ftE {Q : CS × Nat} (h : WC Q.1) (c : Nat) {x : Nat} (hx : x < 16) : WC (ftE Q c x) := ⟨up_lt h.1 hx, up_lt h.2 (by split <;> omega)⟩
theorem WC_ftch {C : CS} (h : WC C) (c : Nat) {x : Nat} (hx : x < 16) : WC (ftch C c x) := by
  unfold ftch
  split
  · exact WC_ftE (WC_ftL _ _ _ _ (WC_wbk h _)) c hx
  · exact h
theorem WC_stL {c x : Nat} : ∀ (n d : Nat) (C : CS), WC C → WC (stL c x n d C) := by
  intro n
  induction n with
  | zero => intro d C h; exact h
  | succ n ih =>
    intro d C h
    unfold stL
    split
    · exact ih _ _ h
    · split
      · exact ih _ _ h
      · exact ih _ _ (WC_stS h _ (by omega))
theorem WC_stF {C : CS} (h : WC C) (c x : Nat) (v : Int32) : WC (stF C c x v) := ⟨h.1, up_lt h.2 (by omega)⟩
theorem WC_stor {C : CS} (h : WC C) (c : Nat) {x : Nat} (hx : x < 16) (v : Int32) : WC (stor C c x v) := by
  unfold stor
  refine WC_stF ?_ c x v
  split
  · exact WC_stL _ _ _ (WC_ftch h c hx)
  · exact WC_ftch h c hx
theorem WC_udL {T : TS} (hT : WT T) {c q : Nat} (hq : q < 12) : ∀ (n : Nat) (C : CS), n ≤ 16 → WC C → WC (udL T c q n C) := by
  intro n
  induction n with
  | zero => intro C _ h; exact h
  | succ n ih =>
    intro C hn h
    exact ih _ (by omega) (WC_stor h c (hT.2.2 _ (by omega)) _)
theorem WT_ntR {T : TS} (h : WT T) (c x : Nat) : WT (ntR T c x) := by
  unfold ntR
  split
  · exact h
  · exact h
theorem WT_udT {T : TS} (h : WT T) (c : Nat) (hc : c < 4) : WT (udT T c) := ⟨up_le h.1 (by have := h.1 c hc; omega), h.2⟩
theorem WT_enA {T : TS} (h : WT T) (c : Nat) : WT (enA T c) := h
theorem WT_lgT {T : TS} (h : WT T) {q x : Nat} (hz : tZ T q < 16) (hx : x < 16) (old : Int32) : WT (lgT T q x old) := ⟨h.1, up_le h.2.1 hz, up_lt h.2.2 hx⟩
theorem wrt_lt {T : TS} {x : Nat} : ∀ (n k j : Nat), wrt T x n k = some j → j < k + n := by
  intro n
  induction n with
  | zero => intro k j h; cases h
  | succ n ih =>
    intro k j h
    unfold wrt at h
    split at h
    · have := ih _ _ h
      omega
    · cases h
      omega
/-! how many cells are in a set -/
def cnt (s : Int32) : Nat := bN s 0 + bN s 1 + bN s 2 + bN s 3 + bN s 4 + bN s 5 + bN s 6 + bN s 7 + bN s 8 + bN s 9 + bN s 10 + bN s 11 + bN s 12 + bN s 13 + bN s 14 + bN s 15
theorem x16 {x : Nat} (hx : x < 16) : x = 0 ∨ x = 1 ∨ x = 2 ∨ x = 3 ∨ x = 4 ∨ x = 5 ∨ x = 6 ∨ x = 7 ∨ x = 8 ∨ x = 9 ∨ x = 10 ∨ x = 11 ∨ x = 12 ∨ x = 13 ∨ x = 14 ∨ x = 15 := by omega
theorem bN_b1 : ∀ i, i < 32 → ∀ j, j < 32 → bN (b1 i) j = if j = i then 1 else 0 := by decide +kernel
theorem bN_or (s t : Int32) (i : Nat) : bN (s ||| t) i = if bN s i = 1 ∨ bN t i = 1 then 1 else 0 := by
  unfold bN
  rw [b_or]
  cases bt s i <;> cases bt t i <;> rfl
theorem bN_or1 (s : Int32) {i j : Nat} (hi : i < 32) (hj : j < 32) : bN (s ||| b1 i) j = if j = i then 1 else bN s j := by
  rw [bN_or, bN_b1 i hi j hj]
  have := bN_le s j
  by_cases h : j = i
  · simp [h]
  · simp only [h, if_false]
    split <;> omega
theorem cnt_lt {s : Int32} {x : Nat} (hx : x < 16) (h : bN s x = 0) : cnt s < 16 := by
  have l0 := bN_le s 0
  have l1 := bN_le s 1
  have l2 := bN_le s 2
  have l3 := bN_le s 3
  have l4 := bN_le s 4
  have l5 := bN_le s 5
  have l6 := bN_le s 6
  have l7 := bN_le s 7
  have l8 := bN_le s 8
  have l9 := bN_le s 9
  have l10 := bN_le s 10
  have l11 := bN_le s 11
  have l12 := bN_le s 12
  have l13 := bN_le s 13
  have l14 := bN_le s 14
  have l15 := bN_le s 15
  unfold cnt
  rcases x16 hx with rfl | rfl | rfl | rfl | rfl | rfl | rfl | rfl | rfl | rfl | rfl | rfl | rfl | rfl | rfl | rfl <;> omega
theorem cnt_le (s : Int32) : cnt s ≤ 16 := by
  have l0 := bN_le s 0
  have l1 := bN_le s 1
  have l2 := bN_le s 2
  have l3 := bN_le s 3
  have l4 := bN_le s 4
  have l5 := bN_le s 5
  have l6 := bN_le s 6
  have l7 := bN_le s 7
  have l8 := bN_le s 8
  have l9 := bN_le s 9
  have l10 := bN_le s 10
  have l11 := bN_le s 11
  have l12 := bN_le s 12
  have l13 := bN_le s 13
  have l14 := bN_le s 14
  have l15 := bN_le s 15
  unfold cnt
  omega
theorem cnt_add {s : Int32} {x : Nat} (hx : x < 16) (h : bN s x = 0) : cnt (s ||| b1 x) = cnt s + 1 := by
  have e : ∀ j, j < 16 → bN (s ||| b1 x) j = if j = x then 1 else bN s j := fun j hj => bN_or1 s (by omega) (by omega)
  unfold cnt
  rw [e 0 (by omega), e 1 (by omega), e 2 (by omega), e 3 (by omega), e 4 (by omega), e 5 (by omega), e 6 (by omega), e 7 (by omega), e 8 (by omega), e 9 (by omega), e 10 (by omega), e 11 (by omega), e 12 (by omega), e 13 (by omega), e 14 (by omega), e 15 (by omega)]
  clear e
  rcases x16 hx with rfl | rfl | rfl | rfl | rfl | rfl | rfl | rfl | rfl | rfl | rfl | rfl | rfl | rfl | rfl | rfl <;> (simp; omega)
theorem cnt_0 : cnt (nI 0) = 0 := by decide +kernel
theorem WM_put {M : MS} (h : WM M) (c x : Nat) (v : Int32) : WM (mput M c x v) := by
  unfold mput
  split
  · exact h
  · exact h
theorem WM_rd {M : MS} (h : WM M) (c x : Nat) : WM (mrdM M c x) := by
  unfold mrdM
  split
  · exact h
  · exact h
theorem WM_enD {M : MS} (h : WM M) (c : Nat) (hc : c < 4) : WM (menD M c) := up_le h (by have := h c hc; omega)
end
section
/-! contracts of the caches' methods -/
set_option maxHeartbeats 4000000 in
set_option maxRecDepth 100000 in
theorem met_X0_lineOf {l : Launch} {D : va_G} {c x : Nat} (hx : x < 2 ^ 31) : GMi l yX0_lineOf (ws_ yX0_lineOf cX0_lineOf 2 (some .int)) (rmD 0) D [] [] [.int (nI c), .int (nI x)] [] (nI (lnO c x)) := by
  refine GMi.of (by decide) (Nat.le_of_ble_eq_true rfl) ?_
  intro p e s m args below meth cd A ls K hr hlk hI hl
  have K : GC RX0 [] D A p s m args cd cX0_lineOf 2 := K
  have hl : lv_has ls 2 [(0, .int (nI c)), (1, .int (nI x))] := hl
  obtain ⟨hE, hB, hml, hown, hts, hK, hA⟩ := id K
  refine lv_iload_n hE hB dX0_lineOf_0 rfl (lv_at hl 0 rfl) ?_
  refine lv_iconst (v := nI 4) hE hB dX0_lineOf_1 (by decide) ?_
  refine n_mul hE hB dX0_lineOf_2 ?_
  refine lv_iload_n hE hB dX0_lineOf_3 rfl (lv_at hl 1 rfl) ?_
  refine lv_iconst (v := nI 3) hE hB dX0_lineOf_4 (by decide) ?_
  refine n_and3 hE hB (by omega) dX0_lineOf_5 ?_
  refine n_add hE hB dX0_lineOf_6 ?_
  exact g_iret K hr hlk hI rfl rfl dX0_lineOf_7
set_option maxHeartbeats 4000000 in
set_option maxRecDepth 100000 in
theorem kX0_lineOf {p : Program} {l : Launch} {e : Env} {R : Room} {s : State} {m : MethodId} {args : Array Value} {below : List Frame} {meth : Method} {cd : Code} {H : Heap} {locs : List Loc} {cells slots : Nat} {Q : State → Prop} {cc : ByteArray} {pc : Nat} {ls : Array Slot} {rest : List Value} {D : va_G} {A : Nat → Prop} {nL : Nat} {ws : va_W} {tys : List (ClassId × FieldType)} (K : GC RX0 tys D A p s m args cd cc nL) (hI : GI D A s.heap ws H locs) {c x : Nat} (hx : x < 2 ^ 31) {v : Int32} (hv : nI (lnO c x) = v) (hls : ls.size = nL) (hR : (rmD 0).frames + 1 ≤ R.frames ∧ 8 + (2 + 11) + (rmD 0).locals ≤ R.locals) (hroom : (rest.map fun v => v.category).sum ≤ 8) (hf : cells ≤ R.cells ∧ slots ≤ R.slots) (hdg : decode cc pc = .ok (.invokestatic 41, 3)) (kk : ∀ (H : Heap) (locs : List Loc), GI D A s.heap ws H locs → W p l e R s m args below meth cd H locs cells slots Q (F0 m (pc + 3) ls (.int v :: rest))) : W p l e R s m args below meth cd H locs cells slots Q (F0 m pc ls (.int (nI x) :: .int (nI c) :: rest)) := g_callS (n := 2) (As := [.int (nI c), .int (nI x)]) K hI (met_X0_lineOf hx) hv (lw_S q99 q100 q22 q101) (by decide +kernel) ⟨rfl, rfl⟩ rfl rfl hls hR hroom hf hdg kk
set_option maxHeartbeats 4000000 in
set_option maxRecDepth 100000 in
theorem met_X0_isCore {l : Launch} {D : va_G} {c : Int32} : GMi l yX0_isCore (ws_ yX0_isCore cX0_isCore 1 (some .boolean)) (rmD 0) D [] [] [.int c] [] (nI (isI c 4)) := by
  refine GMi.of (by decide) (Nat.le_of_ble_eq_true rfl) ?_
  intro p e s m args below meth cd A ls K hr hlk hI hl
  have K : GC RX0 [] D A p s m args cd cX0_isCore 1 := K
  have hl : lv_has ls 1 [(0, .int c)] := hl
  obtain ⟨hE, hB, hml, hown, hts, hK, hA⟩ := id K
  refine lv_iload_n hE hB dX0_isCore_0 rfl (lv_at hl 0 rfl) ?_
  refine lv_if_lt (tgt := 13) hE hB dX0_isCore_1 (by decide) (fun h_1 => ?_) (fun h_1 => ?_)
  · refine lv_iconst (v := nI 0) hE hB dX0_isCore_13 (by decide) ?_
    exact g_zret K hr hlk hI rfl rfl (by simp [isI, h_1]) dX0_isCore_14
  · refine lv_iload_n hE hB dX0_isCore_4 rfl (lv_at hl 0 rfl) ?_
    refine lv_iconst (v := nI 4) hE hB dX0_isCore_5 (by decide) ?_
    refine lv_icmp_ge (tgt := 13) hE hB dX0_isCore_6 (by decide) (fun h_6 => ?_) (fun h_6 => ?_)
    · refine lv_iconst (v := nI 0) hE hB dX0_isCore_13 (by decide) ?_
      exact g_zret K hr hlk hI rfl rfl (by simp [isI, h_1, h_6]) dX0_isCore_14
    · refine lv_iconst (v := nI 1) hE hB dX0_isCore_9 (by decide) ?_
      refine lv_goto (tgt := 14) hE hB dX0_isCore_10 (by decide) ?_
      exact g_zret K hr hlk hI rfl rfl (by simp [isI, h_1, h_6]) dX0_isCore_14
set_option maxHeartbeats 4000000 in
set_option maxRecDepth 100000 in
theorem kX0_isCore {p : Program} {l : Launch} {e : Env} {R : Room} {s : State} {m : MethodId} {args : Array Value} {below : List Frame} {meth : Method} {cd : Code} {H : Heap} {locs : List Loc} {cells slots : Nat} {Q : State → Prop} {cc : ByteArray} {pc : Nat} {ls : Array Slot} {rest : List Value} {D : va_G} {A : Nat → Prop} {nL : Nat} {ws : va_W} {tys : List (ClassId × FieldType)} (K : GC RX0 tys D A p s m args cd cc nL) (hI : GI D A s.heap ws H locs) {c : Int32} {v : Int32} (hv : nI (isI c 4) = v) (hls : ls.size = nL) (hR : (rmD 0).frames + 1 ≤ R.frames ∧ 8 + (1 + 11) + (rmD 0).locals ≤ R.locals) (hroom : (rest.map fun v => v.category).sum ≤ 8) (hf : cells ≤ R.cells ∧ slots ≤ R.slots) (hdg : decode cc pc = .ok (.invokestatic 80, 3)) (kk : ∀ (H : Heap) (locs : List Loc), GI D A s.heap ws H locs → W p l e R s m args below meth cd H locs cells slots Q (F0 m (pc + 3) ls (.int v :: rest))) : W p l e R s m args below meth cd H locs cells slots Q (F0 m pc ls (.int c :: rest)) := g_callS (n := 1) (As := [.int c]) K hI (met_X0_isCore ) hv (lw_S q69 q70 q22 q71) (by decide +kernel) ⟨rfl, rfl⟩ rfl rfl hls hR hroom hf hdg kk
set_option maxHeartbeats 4000000 in
set_option maxRecDepth 100000 in
theorem met_X0_isCell {l : Launch} {D : va_G} {c : Int32} : GMi l yX0_isCell (ws_ yX0_isCell cX0_isCell 1 (some .boolean)) (rmD 0) D [] [] [.int c] [] (nI (isI c 16)) := by
  refine GMi.of (by decide) (Nat.le_of_ble_eq_true rfl) ?_
  intro p e s m args below meth cd A ls K hr hlk hI hl
  have K : GC RX0 [] D A p s m args cd cX0_isCell 1 := K
  have hl : lv_has ls 1 [(0, .int c)] := hl
  obtain ⟨hE, hB, hml, hown, hts, hK, hA⟩ := id K
  refine lv_iload_n hE hB dX0_isCell_0 rfl (lv_at hl 0 rfl) ?_
  refine lv_if_lt (tgt := 14) hE hB dX0_isCell_1 (by decide) (fun h_1 => ?_) (fun h_1 => ?_)
  · refine lv_iconst (v := nI 0) hE hB dX0_isCell_14 (by decide) ?_
    exact g_zret K hr hlk hI rfl rfl (by simp [isI, h_1]) dX0_isCell_15
  · refine lv_iload_n hE hB dX0_isCell_4 rfl (lv_at hl 0 rfl) ?_
    refine lv_bipush (v := nI 16) hE hB dX0_isCell_5 (by decide) ?_
    refine lv_icmp_ge (tgt := 14) hE hB dX0_isCell_7 (by decide) (fun h_7 => ?_) (fun h_7 => ?_)
    · refine lv_iconst (v := nI 0) hE hB dX0_isCell_14 (by decide) ?_
      exact g_zret K hr hlk hI rfl rfl (by simp [isI, h_1, h_7]) dX0_isCell_15
    · refine lv_iconst (v := nI 1) hE hB dX0_isCell_10 (by decide) ?_
      refine lv_goto (tgt := 15) hE hB dX0_isCell_11 (by decide) ?_
      exact g_zret K hr hlk hI rfl rfl (by simp [isI, h_1, h_7]) dX0_isCell_15
set_option maxHeartbeats 4000000 in
set_option maxRecDepth 100000 in
theorem kX0_isCell {p : Program} {l : Launch} {e : Env} {R : Room} {s : State} {m : MethodId} {args : Array Value} {below : List Frame} {meth : Method} {cd : Code} {H : Heap} {locs : List Loc} {cells slots : Nat} {Q : State → Prop} {cc : ByteArray} {pc : Nat} {ls : Array Slot} {rest : List Value} {D : va_G} {A : Nat → Prop} {nL : Nat} {ws : va_W} {tys : List (ClassId × FieldType)} (K : GC RX0 tys D A p s m args cd cc nL) (hI : GI D A s.heap ws H locs) {c : Int32} {v : Int32} (hv : nI (isI c 16) = v) (hls : ls.size = nL) (hR : (rmD 0).frames + 1 ≤ R.frames ∧ 8 + (1 + 11) + (rmD 0).locals ≤ R.locals) (hroom : (rest.map fun v => v.category).sum ≤ 8) (hf : cells ≤ R.cells ∧ slots ≤ R.slots) (hdg : decode cc pc = .ok (.invokestatic 84, 3)) (kk : ∀ (H : Heap) (locs : List Loc), GI D A s.heap ws H locs → W p l e R s m args below meth cd H locs cells slots Q (F0 m (pc + 3) ls (.int v :: rest))) : W p l e R s m args below meth cd H locs cells slots Q (F0 m pc ls (.int c :: rest)) := g_callS (n := 1) (As := [.int c]) K hI (met_X0_isCell ) hv (lw_S q76 q77 q22 q78) (by decide +kernel) ⟨rfl, rfl⟩ rfl rfl hls hR hroom hf hdg kk
set_option maxHeartbeats 4000000 in
set_option maxRecDepth 100000 in
theorem met_X0_holds {l : Launch} {D : va_G} {o : Nat} {a : Nat → Nat} {d : Nat → ClassId} {C : CS} {T : TS} {c x : Nat} (hc : c < 4) (hx : x < 16) (hW : WC C) : GMi l yX0_holds (ws_ yX0_holds cX0_holds 4 (some .boolean)) (rmD 1) D (tysX d) (wX o a d C T) [.ref o, .int (nI c), .int (nI x)] (wX o a d C T) (nI (hld C c x)) := by
  refine GMi.of (by decide) (Nat.le_of_ble_eq_true rfl) ?_
  intro p e s m args below meth cd A ls K hr hlk hI hl
  have K : GC RX0 (tysX d) D A p s m args cd cX0_holds 4 := K
  have hl : lv_has ls 4 [(0, .ref o), (1, .int (nI c)), (2, .int (nI x))] := hl
  obtain ⟨hE, hB, hml, hown, hts, hK, hA⟩ := id K
  refine lv_iload_n hE hB dX0_holds_0 rfl (lv_at hl 1 rfl) ?_
  refine lv_iload_n hE hB dX0_holds_1 rfl (lv_at hl 2 rfl) ?_
  refine kX0_lineOf K hI (by omega) rfl hl.1 ⟨Nat.le_of_ble_eq_true rfl, Nat.le_of_ble_eq_true rfl⟩ (Nat.le_of_ble_eq_true rfl) ⟨Nat.zero_le _, Nat.zero_le _⟩ dX0_holds_2 (fun H locs hI => ?_)
  refine lv_istore_n (lv' := [(3, .int (nI (lnO c x))), (0, .ref o), (1, .int (nI c)), (2, .int (nI x))]) hE hB dX0_holds_5 rfl hl (by decide) rfl (fun ls hl => ?_)
  refine lv_aload_n hE hB dX0_holds_6 rfl (lv_at hl 1 rfl) ?_
  refine xg2 hE hB hts hown hK hI dX0_holds_7 ?_
  refine lv_iload_n hE hB dX0_holds_10 rfl (lv_at hl 0 rfl) ?_
  refine xl2 hE hB hK hI (i := (lnO c x)) (lnO_lt hc x) dX0_holds_11 ?_
  have b12 := hW.2 _ (lnO_lt hc x)
  refine n_if_eq (tgt := 29) hE hB (by omega) dX0_holds_12 (by decide) (fun h_12 => ?_) (fun h_12 => ?_)
  · refine lv_iconst (v := nI 0) hE hB dX0_holds_29 (by decide) ?_
    exact g_zret K hr hlk hI rfl rfl (by simp [hld, h_12]) dX0_holds_30
  · refine lv_aload_n hE hB dX0_holds_15 rfl (lv_at hl 1 rfl) ?_
    refine xg1 hE hB hts hown hK hI dX0_holds_16 ?_
    refine lv_iload_n hE hB dX0_holds_19 rfl (lv_at hl 0 rfl) ?_
    refine xl1 hE hB hK hI (i := (lnO c x)) (lnO_lt hc x) dX0_holds_20 ?_
    refine lv_iload_n hE hB dX0_holds_21 rfl (lv_at hl 3 rfl) ?_
    have b22 := hW.1 _ (lnO_lt hc x)
    refine n_ic_ne (tgt := 29) hE hB (by omega) (by omega) dX0_holds_22 (by decide) (fun h_22 => ?_) (fun h_22 => ?_)
    · refine lv_iconst (v := nI 0) hE hB dX0_holds_29 (by decide) ?_
      exact g_zret K hr hlk hI rfl rfl (by simp [hld, h_12, h_22]) dX0_holds_30
    · refine lv_iconst (v := nI 1) hE hB dX0_holds_25 (by decide) ?_
      refine lv_goto (tgt := 30) hE hB dX0_holds_26 (by decide) ?_
      exact g_zret K hr hlk hI rfl rfl (by simp [hld, h_12, h_22]) dX0_holds_30
set_option maxHeartbeats 4000000 in
set_option maxRecDepth 100000 in
theorem kX0_holds {p : Program} {l : Launch} {e : Env} {R : Room} {s : State} {m : MethodId} {args : Array Value} {below : List Frame} {meth : Method} {cd : Code} {H : Heap} {locs : List Loc} {cells slots : Nat} {Q : State → Prop} {cc : ByteArray} {pc : Nat} {ls : Array Slot} {rest : List Value} {D : va_G} {A : Nat → Prop} {nL : Nat} {o : Nat} {a : Nat → Nat} {d : Nat → ClassId} {C : CS} {T : TS} (K : GC RX0 (tysX d) D A p s m args cd cc nL) (hI : GI D A s.heap (wX o a d C T) H locs) {c x : Nat} (hc : c < 4) (hx : x < 16) (hW : WC C) {v : Int32} (hv : nI (hld C c x) = v) (hls : ls.size = nL) (hR : (rmD 1).frames + 1 ≤ R.frames ∧ 8 + (4 + 11) + (rmD 1).locals ≤ R.locals) (hroom : (rest.map fun v => v.category).sum ≤ 8) (hf : cells ≤ R.cells ∧ slots ≤ R.slots) (hdg : decode cc pc = .ok (.invokevirtual 45, 3)) (kk : ∀ (H : Heap) (locs : List Loc), GI D A s.heap (wX o a d C T) H locs → W p l e R s m args below meth cd H locs cells slots Q (F0 m (pc + 3) ls (.int v :: rest))) : W p l e R s m args below meth cd H locs cells slots Q (F0 m pc ls (.int (nI x) :: .int (nI c) :: .ref o :: rest)) := g_calli (ci := 0) (q0 := 0) (n := 2) (As := [.int (nI c), .int (nI x)]) K hI (met_X0_holds hc hx hW) hv (lw_V q95 q97 qs4 q22 q98) (by decide +kernel) ⟨rfl, rfl⟩ rfl rfl rfl rfl rfl hls hR hroom hf hdg kk
set_option maxHeartbeats 4000000 in
set_option maxRecDepth 100000 in
theorem lpX_newest {p : Program} {l : Launch} {e : Env} {s : State} {m : MethodId} {args : Array Value} {below : List Frame} {meth : Method} {cd : Code} {D : va_G} {A : Nat → Prop} {o : Nat} {a : Nat → Nat} {d : Nat → ClassId} (K : GC RX0 (tysX d) D A p s m args cd cX0_newest 4) (hr : meth.sig.returnType = some .int) (hlk : meth.locks = false) {wz : va_W} {r : Int32} {C : CS} {T : TS} {x : Nat} (hx : x < 16) (hW : WC C) : ∀ (n k : Nat) (H : Heap) (locs : List Loc) (ls : Array Slot), k + n = 4 → wX o a d C T = wz → nwL C x n k = r → GI D A s.heap (wX o a d C T) H locs → lv_has ls 4 [(0, .ref o), (1, .int (nI x)), (2, .int (nI k))] → W p l e (rmD 2) s m args below meth cd H locs 0 0 (MQ below (gQi D (tysX d) A wz r) args s 0 0 A) (F0 m 2 ls []) := by
  obtain ⟨hE, hB, hml, hown, hts, hK, hA⟩ := id K
  intro n
  induction n with
  | zero =>
    intro k H locs ls hkn hz hres hI hl
    obtain rfl : k = 4 := by omega
    refine lv_iload_n hE hB dX0_newest_2 rfl (lv_at hl 2 rfl) ?_
    refine lv_iconst (v := nI 4) hE hB dX0_newest_3 (by decide) ?_
    refine n_ic_ge (tgt := 45) hE hB (by omega) (by omega) dX0_newest_4 (by decide) (fun h_4 => ?_) (fun h_4 => ?_)
    · refine lv_aload_n hE hB dX0_newest_45 rfl (lv_at hl 0 rfl) ?_
      refine xg0 hE hB hts hown hK hI dX0_newest_46 ?_
      refine lv_iload_n hE hB dX0_newest_49 rfl (lv_at hl 1 rfl) ?_
      refine xl0 hE hB hK hI (i := x) (by omega) dX0_newest_50 ?_
      exact g_iret K hr hlk hI hz (by rw [← hres]; rfl) dX0_newest_51
    · exact absurd h_4 (by decide)
  | succ n ih =>
    intro k H locs ls hkn hz hres hI hl
    refine lv_iload_n hE hB dX0_newest_2 rfl (lv_at hl 2 rfl) ?_
    refine lv_iconst (v := nI 4) hE hB dX0_newest_3 (by decide) ?_
    refine n_ic_ge (tgt := 45) hE hB (by omega) (by omega) dX0_newest_4 (by decide) (fun h_4 => ?_) (fun h_4 => ?_)
    · omega
    · refine lv_iload_n hE hB dX0_newest_7 rfl (lv_at hl 2 rfl) ?_
      refine lv_iload_n hE hB dX0_newest_8 rfl (lv_at hl 1 rfl) ?_
      refine kX0_lineOf K hI (by omega) rfl hl.1 ⟨Nat.le_of_ble_eq_true rfl, Nat.le_of_ble_eq_true rfl⟩ (Nat.le_of_ble_eq_true rfl) ⟨Nat.zero_le _, Nat.zero_le _⟩ dX0_newest_9 (fun H locs hI => ?_)
      refine lv_istore_n (lv' := [(3, .int (nI (lnO k x))), (0, .ref o), (1, .int (nI x)), (2, .int (nI k))]) hE hB dX0_newest_12 rfl hl (by decide) rfl (fun ls hl => ?_)
      have hln := lnO_lt (show k < 4 by omega) x
      refine lv_aload_n hE hB dX0_newest_13 rfl (lv_at hl 1 rfl) ?_
      refine lv_iload_n hE hB dX0_newest_14 rfl (lv_at hl 3 rfl) ?_
      refine lv_iload_n hE hB dX0_newest_15 rfl (lv_at hl 2 rfl) ?_
      refine kX0_holds K hI (by omega) (by omega) hW rfl hl.1 ⟨Nat.le_of_ble_eq_true rfl, Nat.le_of_ble_eq_true rfl⟩ (Nat.le_of_ble_eq_true rfl) ⟨Nat.zero_le _, Nat.zero_le _⟩ dX0_newest_16 (fun H locs hI => ?_)
      have b19 := hld_le C k x
      refine n_if_eq (tgt := 39) hE hB (by omega) dX0_newest_19 (by decide) (fun h_19 => ?_) (fun h_19 => ?_)
      · refine lv_iinc (v := (nI (k + 1))) (lv' := [(2, .int (nI (k + 1))), (3, .int (nI (lnO k x))), (0, .ref o), (1, .int (nI x))]) hE hB dX0_newest_39 hl (k := 3) rfl (nI_1 _) (by decide) rfl (fun ls hl => ?_)
        refine lv_goto (tgt := 2) hE hB dX0_newest_42 (by decide) ?_
        exact ih (k + 1) H locs ls (by omega) hz (by rw [← hres]; simp [nwL, h_4, h_19]) hI (lv_sub hl [2, 3, 0] rfl)
      · refine lv_aload_n hE hB dX0_newest_22 rfl (lv_at hl 1 rfl) ?_
        refine xg2 hE hB hts hown hK hI dX0_newest_23 ?_
        refine lv_iload_n hE hB dX0_newest_26 rfl (lv_at hl 0 rfl) ?_
        refine xl2 hE hB hK hI (i := (lnO k x)) hln dX0_newest_27 ?_
        refine lv_iconst (v := nI 3) hE hB dX0_newest_28 (by decide) ?_
        have b29 := hW.2 _ hln
        refine n_ic_ne (tgt := 39) hE hB (by omega) (by omega) dX0_newest_29 (by decide) (fun h_29 => ?_) (fun h_29 => ?_)
        · refine lv_iinc (v := (nI (k + 1))) (lv' := [(2, .int (nI (k + 1))), (3, .int (nI (lnO k x))), (0, .ref o), (1, .int (nI x))]) hE hB dX0_newest_39 hl (k := 3) rfl (nI_1 _) (by decide) rfl (fun ls hl => ?_)
          refine lv_goto (tgt := 2) hE hB dX0_newest_42 (by decide) ?_
          exact ih (k + 1) H locs ls (by omega) hz (by rw [← hres]; simp [nwL, h_4, h_19, h_29]) hI (lv_sub hl [2, 3, 0] rfl)
        · refine lv_aload_n hE hB dX0_newest_32 rfl (lv_at hl 1 rfl) ?_
          refine xg3 hE hB hts hown hK hI dX0_newest_33 ?_
          refine lv_iload_n hE hB dX0_newest_36 rfl (lv_at hl 0 rfl) ?_
          refine xl3 hE hB hK hI (i := (lnO k x)) hln dX0_newest_37 ?_
          exact g_iret K hr hlk hI hz (by rw [← hres]; simp [nwL, h_4, h_19, h_29]) dX0_newest_38
set_option maxHeartbeats 4000000 in
set_option maxRecDepth 100000 in
theorem met_X0_newest {l : Launch} {D : va_G} {o : Nat} {a : Nat → Nat} {d : Nat → ClassId} {C : CS} {T : TS} {x : Nat} (hx : x < 16) (hW : WC C) : GMi l yX0_newest (ws_ yX0_newest cX0_newest 4 (some .int)) (rmD 2) D (tysX d) (wX o a d C T) [.ref o, .int (nI x)] (wX o a d C T) (nwst C x) := by
  refine GMi.of (by decide) (Nat.le_of_ble_eq_true rfl) ?_
  intro p e s m args below meth cd A ls K hr hlk hI hl
  have K : GC RX0 (tysX d) D A p s m args cd cX0_newest 4 := K
  have hl : lv_has ls 4 [(0, .ref o), (1, .int (nI x))] := hl
  obtain ⟨hE, hB, hml, hown, hts, hK, hA⟩ := id K
  refine lv_iconst (v := nI 0) hE hB dX0_newest_0 (by decide) ?_
  refine lv_istore_n (lv' := [(2, .int (nI 0)), (0, .ref o), (1, .int (nI x))]) hE hB dX0_newest_1 rfl hl (by decide) rfl (fun ls hl => ?_)
  exact lpX_newest K hr hlk hx hW 4 0 _ _ ls rfl rfl rfl hI (lv_sub hl [1, 2, 0] rfl)
set_option maxHeartbeats 4000000 in
set_option maxRecDepth 100000 in
theorem kX0_newest {p : Program} {l : Launch} {e : Env} {R : Room} {s : State} {m : MethodId} {args : Array Value} {below : List Frame} {meth : Method} {cd : Code} {H : Heap} {locs : List Loc} {cells slots : Nat} {Q : State → Prop} {cc : ByteArray} {pc : Nat} {ls : Array Slot} {rest : List Value} {D : va_G} {A : Nat → Prop} {nL : Nat} {o : Nat} {a : Nat → Nat} {d : Nat → ClassId} {C : CS} {T : TS} (K : GC RX0 (tysX d) D A p s m args cd cc nL) (hI : GI D A s.heap (wX o a d C T) H locs) {x : Nat} (hx : x < 16) (hW : WC C) {v : Int32} (hv : nwst C x = v) (hls : ls.size = nL) (hR : (rmD 2).frames + 1 ≤ R.frames ∧ 8 + (4 + 11) + (rmD 2).locals ≤ R.locals) (hroom : (rest.map fun v => v.category).sum ≤ 8) (hf : cells ≤ R.cells ∧ slots ≤ R.slots) (hdg : decode cc pc = .ok (.invokevirtual 64, 3)) (kk : ∀ (H : Heap) (locs : List Loc), GI D A s.heap (wX o a d C T) H locs → W p l e R s m args below meth cd H locs cells slots Q (F0 m (pc + 3) ls (.int v :: rest))) : W p l e R s m args below meth cd H locs cells slots Q (F0 m pc ls (.int (nI x) :: .ref o :: rest)) := g_calli (ci := 0) (q0 := 0) (n := 1) (As := [.int (nI x)]) K hI (met_X0_newest hx hW) hv (lw_V q118 q120 qs8 q22 q121) (by decide +kernel) ⟨rfl, rfl⟩ rfl rfl rfl rfl rfl hls hR hroom hf hdg kk
set_option maxHeartbeats 4000000 in
set_option maxRecDepth 100000 in
theorem met_X0_writeBack {l : Launch} {D : va_G} {o : Nat} {a : Nat → Nat} {d : Nat → ClassId} {C : CS} {T : TS} {ln : Nat} (hln : ln < 16) (hW : WC C) : GMv l yX0_writeBack (ws_ yX0_writeBack cX0_writeBack 2 none) (rmD 0) D (tysX d) (wX o a d C T) [.ref o, .int (nI ln)] (wX o a d (wbk C ln) T) := by
  refine GMv.of (by decide) (Nat.le_of_ble_eq_true rfl) ?_
  intro p e s m args below meth cd A ls K hr hlk hI hl
  have K : GC RX0 (tysX d) D A p s m args cd cX0_writeBack 2 := K
  have hl : lv_has ls 2 [(0, .ref o), (1, .int (nI ln))] := hl
  obtain ⟨hE, hB, hml, hown, hts, hK, hA⟩ := id K
  refine lv_aload_n hE hB dX0_writeBack_0 rfl (lv_at hl 0 rfl) ?_
  refine xg2 hE hB hts hown hK hI dX0_writeBack_1 ?_
  refine lv_iload_n hE hB dX0_writeBack_4 rfl (lv_at hl 1 rfl) ?_
  refine xl2 hE hB hK hI (i := ln) (by omega) dX0_writeBack_5 ?_
  refine lv_iconst (v := nI 3) hE hB dX0_writeBack_6 (by decide) ?_
  have b7 := hW.2 ln hln
  refine n_ic_ne (tgt := 27) hE hB (by omega) (by omega) dX0_writeBack_7 (by decide) (fun h_7 => ?_) (fun h_7 => ?_)
  · exact g_vret K hr hlk hI (by simp [wbk, h_7]) dX0_writeBack_27
  · refine lv_aload_n hE hB dX0_writeBack_10 rfl (lv_at hl 0 rfl) ?_
    refine xg0 hE hB hts hown hK hI dX0_writeBack_11 ?_
    refine lv_aload_n hE hB dX0_writeBack_14 rfl (lv_at hl 0 rfl) ?_
    refine xg1 hE hB hts hown hK hI dX0_writeBack_15 ?_
    refine lv_iload_n hE hB dX0_writeBack_18 rfl (lv_at hl 1 rfl) ?_
    refine xl1 hE hB hK hI (i := ln) (by omega) dX0_writeBack_19 ?_
    refine lv_aload_n hE hB dX0_writeBack_20 rfl (lv_at hl 0 rfl) ?_
    refine xg3 hE hB hts hown hK hI dX0_writeBack_21 ?_
    refine lv_iload_n hE hB dX0_writeBack_24 rfl (lv_at hl 1 rfl) ?_
    refine xl3 hE hB hK hI (i := ln) (by omega) dX0_writeBack_25 ?_
    refine xs0 hE hB hK hI (i := (cG C ln)) (v := (cD C ln)) (hW.1 ln hln) dX0_writeBack_26 (fun H locs hI => ?_)
    have hI : GI D A s.heap (wX o a d (upd (cM C) (cG C ln) (cD C ln), cG C, cS C, cD C) T) H locs := hI
    exact g_vret K hr hlk hI (by simp [wbk, h_7]) dX0_writeBack_27
set_option maxHeartbeats 4000000 in
set_option maxRecDepth 100000 in
theorem kX0_writeBack {p : Program} {l : Launch} {e : Env} {R : Room} {s : State} {m : MethodId} {args : Array Value} {below : List Frame} {meth : Method} {cd : Code} {H : Heap} {locs : List Loc} {cells slots : Nat} {Q : State → Prop} {cc : ByteArray} {pc : Nat} {ls : Array Slot} {rest : List Value} {D : va_G} {A : Nat → Prop} {nL : Nat} {o : Nat} {a : Nat → Nat} {d : Nat → ClassId} {C : CS} {T : TS} (K : GC RX0 (tysX d) D A p s m args cd cc nL) (hI : GI D A s.heap (wX o a d C T) H locs) {ln : Nat} (hln : ln < 16) (hW : WC C) (hls : ls.size = nL) (hR : (rmD 0).frames + 1 ≤ R.frames ∧ 8 + (2 + 11) + (rmD 0).locals ≤ R.locals) (hroom : (rest.map fun v => v.category).sum ≤ 8) (hf : cells ≤ R.cells ∧ slots ≤ R.slots) (hdg : decode cc pc = .ok (.invokevirtual 49, 3)) (kk : ∀ (H : Heap) (locs : List Loc), GI D A s.heap (wX o a d (wbk C ln) T) H locs → W p l e R s m args below meth cd H locs cells slots Q (F0 m (pc + 3) ls rest)) : W p l e R s m args below meth cd H locs cells slots Q (F0 m pc ls (.int (nI ln) :: .ref o :: rest)) := g_callv (ci := 0) (q0 := 0) (n := 1) (As := [.int (nI ln)]) K hI (met_X0_writeBack hln hW) (lw_V q102 q104 qs5 q22 q105) (by decide +kernel) ⟨rfl, rfl⟩ rfl rfl rfl rfl rfl hls hR hroom hf hdg kk
set_option maxHeartbeats 4000000 in
set_option maxRecDepth 100000 in
theorem lpX_fetch {p : Program} {l : Launch} {e : Env} {s : State} {m : MethodId} {args : Array Value} {below : List Frame} {meth : Method} {cd : Code} {D : va_G} {A : Nat → Prop} {o : Nat} {a : Nat → Nat} {d : Nat → ClassId} (K : GC RX0 (tysX d) D A p s m args cd cX0_fetch 7) (hr : meth.sig.returnType = none) (hlk : meth.locks = false) {wz : va_W} {T : TS} {c x : Nat} (hc : c < 4) (hx : x < 16) : ∀ (n k : Nat) (C : CS) (sh : Nat) (H : Heap) (locs : List Loc) (ls : Array Slot), k + n = 4 → WC C → sh < 2 → wX o a d (ftE (ftL c x n k C sh) c x) T = wz → GI D A s.heap (wX o a d C T) H locs → lv_has ls 7 [(0, .ref o), (1, .int (nI c)), (2, .int (nI x)), (3, .int (nI (lnO c x))), (4, .int (nI sh)), (5, .int (nI k))] → W p l e (rmD 2) s m args below meth cd H locs 0 0 (MQ below (gQv D (tysX d) A wz) args s 0 0 A) (F0 m 27 ls []) := by
  obtain ⟨hE, hB, hml, hown, hts, hK, hA⟩ := id K
  have hln := lnO_lt hc x
  intro n
  induction n with
  | zero =>
    intro k C sh H locs ls hkn hW hsh hz hI hl
    obtain rfl : k = 4 := by omega
    refine lv_iload hE hB dX0_fetch_27 (lv_at hl 5 rfl) ?_
    refine lv_iconst (v := nI 4) hE hB dX0_fetch_29 (by decide) ?_
    refine n_ic_ge (tgt := 80) hE hB (by omega) (by omega) dX0_fetch_30 (by decide) (fun h_30 => ?_) (fun h_30 => ?_)
    · refine lv_aload_n hE hB dX0_fetch_80 rfl (lv_at hl 0 rfl) ?_
      refine xg1 hE hB hts hown hK hI dX0_fetch_81 ?_
      refine lv_iload_n hE hB dX0_fetch_84 rfl (lv_at hl 3 rfl) ?_
      refine lv_iload_n hE hB dX0_fetch_85 rfl (lv_at hl 2 rfl) ?_
      refine n_i2b hE hB (by omega) dX0_fetch_86 ?_
      refine xs1 hE hB hK hI (i := (lnO c x)) (v := x) hln (by omega) dX0_fetch_87 (fun H locs hI => ?_)
      have hI : GI D A s.heap (wX o a d (cM C, upN (cG C) (lnO c x) x, cS C, cD C) T) H locs := hI
      refine lv_aload_n hE hB dX0_fetch_88 rfl (lv_at hl 0 rfl) ?_
      refine xg3 hE hB hts hown hK hI dX0_fetch_89 ?_
      refine lv_iload_n hE hB dX0_fetch_92 rfl (lv_at hl 3 rfl) ?_
      refine lv_aload_n hE hB dX0_fetch_93 rfl (lv_at hl 0 rfl) ?_
      refine xg0 hE hB hts hown hK hI dX0_fetch_94 ?_
      refine lv_iload_n hE hB dX0_fetch_97 rfl (lv_at hl 2 rfl) ?_
      refine xl0 hE hB hK hI (i := x) (by omega) dX0_fetch_98 ?_
      refine n_top (y := (cM C x)) rfl ?_
      refine xs3 hE hB hK hI (i := (lnO c x)) (v := (cM C x)) hln dX0_fetch_99 (fun H locs hI => ?_)
      have hI : GI D A s.heap (wX o a d (cM C, upN (cG C) (lnO c x) x, cS C, upd (cD C) (lnO c x) (cM C x)) T) H locs := hI
      refine lv_aload_n hE hB dX0_fetch_100 rfl (lv_at hl 0 rfl) ?_
      refine xg2 hE hB hts hown hK hI dX0_fetch_101 ?_
      refine lv_iload_n hE hB dX0_fetch_104 rfl (lv_at hl 3 rfl) ?_
      refine lv_iload hE hB dX0_fetch_105 (lv_at hl 4 rfl) ?_
      refine n_if_eq (tgt := 114) hE hB (by omega) dX0_fetch_107 (by decide) (fun h_107 => ?_) (fun h_107 => ?_)
      · refine lv_iconst (v := nI 2) hE hB dX0_fetch_114 (by decide) ?_
        refine n_i2b hE hB (by omega) dX0_fetch_115 ?_
        refine xs2 hE hB hK hI (i := (lnO c x)) (v := 2) hln (by omega) dX0_fetch_116 (fun H locs hI => ?_)
        have hI : GI D A s.heap (wX o a d (cM C, upN (cG C) (lnO c x) x, upN (cS C) (lnO c x) 2, upd (cD C) (lnO c x) (cM C x)) T) H locs := hI
        exact g_vret K hr hlk hI (by rw [← hz]; simp [ftL, ftE, h_30, h_107]) dX0_fetch_117
      · refine lv_iconst (v := nI 1) hE hB dX0_fetch_110 (by decide) ?_
        refine lv_goto (tgt := 115) hE hB dX0_fetch_111 (by decide) ?_
        refine n_i2b hE hB (by omega) dX0_fetch_115 ?_
        refine xs2 hE hB hK hI (i := (lnO c x)) (v := 1) hln (by omega) dX0_fetch_116 (fun H locs hI => ?_)
        have hI : GI D A s.heap (wX o a d (cM C, upN (cG C) (lnO c x) x, upN (cS C) (lnO c x) 1, upd (cD C) (lnO c x) (cM C x)) T) H locs := hI
        exact g_vret K hr hlk hI (by rw [← hz]; simp [ftL, ftE, h_30, h_107]) dX0_fetch_117
    · exact absurd h_30 (by decide)
  | succ n ih =>
    intro k C sh H locs ls hkn hW hsh hz hI hl
    refine lv_iload hE hB dX0_fetch_27 (lv_at hl 5 rfl) ?_
    refine lv_iconst (v := nI 4) hE hB dX0_fetch_29 (by decide) ?_
    refine n_ic_ge (tgt := 80) hE hB (by omega) (by omega) dX0_fetch_30 (by decide) (fun h_30 => ?_) (fun h_30 => ?_)
    · omega
    · refine lv_iload hE hB dX0_fetch_33 (lv_at hl 5 rfl) ?_
      refine lv_iload_n hE hB dX0_fetch_35 rfl (lv_at hl 1 rfl) ?_
      refine n_ic_eq (tgt := 74) hE hB (by omega) (by omega) dX0_fetch_36 (by decide) (fun h_36 => ?_) (fun h_36 => ?_)
      · refine lv_iinc (v := (nI (k + 1))) (lv' := [(5, .int (nI (k + 1))), (0, .ref o), (1, .int (nI c)), (2, .int (nI x)), (3, .int (nI (lnO c x))), (4, .int (nI sh))]) hE hB dX0_fetch_74 hl (k := 5) rfl (nI_1 _) (by decide) rfl (fun ls hl => ?_)
        refine lv_goto (tgt := 27) hE hB dX0_fetch_77 (by decide) ?_
        exact ih (k + 1) C sh H locs ls (by omega) hW hsh (by rw [← hz]; simp [ftL, h_30, h_36]) hI (lv_sub hl [1, 2, 3, 4, 5, 0] rfl)
      · refine lv_aload_n hE hB dX0_fetch_39 rfl (lv_at hl 0 rfl) ?_
        refine lv_iload hE hB dX0_fetch_40 (lv_at hl 5 rfl) ?_
        refine lv_iload_n hE hB dX0_fetch_42 rfl (lv_at hl 2 rfl) ?_
        refine kX0_holds K hI (by omega) (by omega) hW rfl hl.1 ⟨Nat.le_of_ble_eq_true rfl, Nat.le_of_ble_eq_true rfl⟩ (Nat.le_of_ble_eq_true rfl) ⟨Nat.zero_le _, Nat.zero_le _⟩ dX0_fetch_43 (fun H locs hI => ?_)
        have b46 := hld_le C k x
        refine n_if_eq (tgt := 74) hE hB (by omega) dX0_fetch_46 (by decide) (fun h_46 => ?_) (fun h_46 => ?_)
        · refine lv_iinc (v := (nI (k + 1))) (lv' := [(5, .int (nI (k + 1))), (0, .ref o), (1, .int (nI c)), (2, .int (nI x)), (3, .int (nI (lnO c x))), (4, .int (nI sh))]) hE hB dX0_fetch_74 hl (k := 5) rfl (nI_1 _) (by decide) rfl (fun ls hl => ?_)
          refine lv_goto (tgt := 27) hE hB dX0_fetch_77 (by decide) ?_
          exact ih (k + 1) C sh H locs ls (by omega) hW hsh (by rw [← hz]; simp [ftL, h_30, h_36, h_46]) hI (lv_sub hl [1, 2, 3, 4, 5, 0] rfl)
        · refine lv_iload hE hB dX0_fetch_49 (lv_at hl 5 rfl) ?_
          refine lv_iload_n hE hB dX0_fetch_51 rfl (lv_at hl 2 rfl) ?_
          refine kX0_lineOf K hI (by omega) rfl hl.1 ⟨Nat.le_of_ble_eq_true rfl, Nat.le_of_ble_eq_true rfl⟩ (Nat.le_of_ble_eq_true rfl) ⟨Nat.zero_le _, Nat.zero_le _⟩ dX0_fetch_52 (fun H locs hI => ?_)
          refine lv_istore (lv' := [(6, .int (nI (lnO k x))), (0, .ref o), (1, .int (nI c)), (2, .int (nI x)), (3, .int (nI (lnO c x))), (4, .int (nI sh)), (5, .int (nI k))]) hE hB dX0_fetch_55 hl (by decide) rfl (fun ls hl => ?_)
          refine lv_aload_n hE hB dX0_fetch_57 rfl (lv_at hl 1 rfl) ?_
          refine lv_iload hE hB dX0_fetch_58 (lv_at hl 0 rfl) ?_
          refine kX0_writeBack K hI (lnO_lt (by omega) _) hW hl.1 ⟨Nat.le_of_ble_eq_true rfl, Nat.le_of_ble_eq_true rfl⟩ (Nat.le_of_ble_eq_true rfl) ⟨Nat.zero_le _, Nat.zero_le _⟩ dX0_fetch_60 (fun H locs hI => ?_)
          have hlk6 := lnO_lt (show k < 4 by omega) x
          refine lv_aload_n hE hB dX0_fetch_63 rfl (lv_at hl 1 rfl) ?_
          refine xg2 hE hB hts hown hK hI dX0_fetch_64 ?_
          refine lv_iload hE hB dX0_fetch_67 (lv_at hl 0 rfl) ?_
          refine lv_iconst (v := nI 1) hE hB dX0_fetch_69 (by decide) ?_
          refine xs2 hE hB hK hI (i := (lnO k x)) (v := 1) hlk6 (by omega) dX0_fetch_70 (fun H locs hI => ?_)
          have hI : GI D A s.heap (wX o a d (cM (wbk C (lnO k x)), cG (wbk C (lnO k x)), upN (cS (wbk C (lnO k x))) (lnO k x) 1, cD (wbk C (lnO k x))) T) H locs := hI
          refine lv_iconst (v := nI 1) hE hB dX0_fetch_71 (by decide) ?_
          refine lv_istore (lv' := [(4, .int (nI 1)), (6, .int (nI (lnO k x))), (0, .ref o), (1, .int (nI c)), (2, .int (nI x)), (3, .int (nI (lnO c x))), (5, .int (nI k))]) hE hB dX0_fetch_72 hl (by decide) rfl (fun ls hl => ?_)
          refine lv_iinc (v := (nI (k + 1))) (lv' := [(5, .int (nI (k + 1))), (4, .int (nI 1)), (6, .int (nI (lnO k x))), (0, .ref o), (1, .int (nI c)), (2, .int (nI x)), (3, .int (nI (lnO c x)))]) hE hB dX0_fetch_74 hl (k := 6) rfl (nI_1 _) (by decide) rfl (fun ls hl => ?_)
          refine lv_goto (tgt := 27) hE hB dX0_fetch_77 (by decide) ?_
          exact ih (k + 1) (stS (wbk C (lnO k x)) (lnO k x) 1) 1 H locs ls (by omega) (WC_stS (WC_wbk hW _) _ (by omega)) (by omega) (by rw [← hz]; simp [ftL, h_30, h_36, h_46]) hI (lv_sub hl [3, 4, 5, 6, 1, 0] rfl)
set_option maxHeartbeats 4000000 in
set_option maxRecDepth 100000 in
theorem met_X0_fetch {l : Launch} {D : va_G} {o : Nat} {a : Nat → Nat} {d : Nat → ClassId} {C : CS} {T : TS} {c x : Nat} (hc : c < 4) (hx : x < 16) (hW : WC C) : GMv l yX0_fetch (ws_ yX0_fetch cX0_fetch 7 none) (rmD 2) D (tysX d) (wX o a d C T) [.ref o, .int (nI c), .int (nI x)] (wX o a d (ftch C c x) T) := by
  refine GMv.of (by decide) (Nat.le_of_ble_eq_true rfl) ?_
  intro p e s m args below meth cd A ls K hr hlk hI hl
  have K : GC RX0 (tysX d) D A p s m args cd cX0_fetch 7 := K
  have hl : lv_has ls 7 [(0, .ref o), (1, .int (nI c)), (2, .int (nI x))] := hl
  obtain ⟨hE, hB, hml, hown, hts, hK, hA⟩ := id K
  refine lv_aload_n hE hB dX0_fetch_0 rfl (lv_at hl 0 rfl) ?_
  refine lv_iload_n hE hB dX0_fetch_1 rfl (lv_at hl 1 rfl) ?_
  refine lv_iload_n hE hB dX0_fetch_2 rfl (lv_at hl 2 rfl) ?_
  refine kX0_holds K hI (by omega) (by omega) hW rfl hl.1 ⟨Nat.le_of_ble_eq_true rfl, Nat.le_of_ble_eq_true rfl⟩ (Nat.le_of_ble_eq_true rfl) ⟨Nat.zero_le _, Nat.zero_le _⟩ dX0_fetch_3 (fun H locs hI => ?_)
  have b6 := hld_le C c x
  refine n_if_eq (tgt := 10) hE hB (by omega) dX0_fetch_6 (by decide) (fun h_6 => ?_) (fun h_6 => ?_)
  · refine lv_iload_n hE hB dX0_fetch_10 rfl (lv_at hl 1 rfl) ?_
    refine lv_iload_n hE hB dX0_fetch_11 rfl (lv_at hl 2 rfl) ?_
    refine kX0_lineOf K hI (by omega) rfl hl.1 ⟨Nat.le_of_ble_eq_true rfl, Nat.le_of_ble_eq_true rfl⟩ (Nat.le_of_ble_eq_true rfl) ⟨Nat.zero_le _, Nat.zero_le _⟩ dX0_fetch_12 (fun H locs hI => ?_)
    refine lv_istore_n (lv' := [(3, .int (nI (lnO c x))), (0, .ref o), (1, .int (nI c)), (2, .int (nI x))]) hE hB dX0_fetch_15 rfl hl (by decide) rfl (fun ls hl => ?_)
    refine lv_aload_n hE hB dX0_fetch_16 rfl (lv_at hl 1 rfl) ?_
    refine lv_iload_n hE hB dX0_fetch_17 rfl (lv_at hl 0 rfl) ?_
    refine kX0_writeBack K hI (lnO_lt (by omega) _) hW hl.1 ⟨Nat.le_of_ble_eq_true rfl, Nat.le_of_ble_eq_true rfl⟩ (Nat.le_of_ble_eq_true rfl) ⟨Nat.zero_le _, Nat.zero_le _⟩ dX0_fetch_18 (fun H locs hI => ?_)
    refine lv_iconst (v := nI 0) hE hB dX0_fetch_21 (by decide) ?_
    refine lv_istore (lv' := [(4, .int (nI 0)), (3, .int (nI (lnO c x))), (0, .ref o), (1, .int (nI c)), (2, .int (nI x))]) hE hB dX0_fetch_22 hl (by decide) rfl (fun ls hl => ?_)
    refine lv_iconst (v := nI 0) hE hB dX0_fetch_24 (by decide) ?_
    refine lv_istore (lv' := [(5, .int (nI 0)), (4, .int (nI 0)), (3, .int (nI (lnO c x))), (0, .ref o), (1, .int (nI c)), (2, .int (nI x))]) hE hB dX0_fetch_25 hl (by decide) rfl (fun ls hl => ?_)
    exact lpX_fetch K hr hlk hc hx 4 0 (wbk C (lnO c x)) 0 _ _ ls rfl (WC_wbk hW _) (by decide) (by simp [ftch, h_6]) hI (lv_sub hl [3, 4, 5, 2, 1, 0] rfl)
  · exact g_vret K hr hlk hI (by simp [ftch, h_6]) dX0_fetch_9
set_option maxHeartbeats 4000000 in
set_option maxRecDepth 100000 in
theorem kX0_fetch {p : Program} {l : Launch} {e : Env} {R : Room} {s : State} {m : MethodId} {args : Array Value} {below : List Frame} {meth : Method} {cd : Code} {H : Heap} {locs : List Loc} {cells slots : Nat} {Q : State → Prop} {cc : ByteArray} {pc : Nat} {ls : Array Slot} {rest : List Value} {D : va_G} {A : Nat → Prop} {nL : Nat} {o : Nat} {a : Nat → Nat} {d : Nat → ClassId} {C : CS} {T : TS} (K : GC RX0 (tysX d) D A p s m args cd cc nL) (hI : GI D A s.heap (wX o a d C T) H locs) {c x : Nat} (hc : c < 4) (hx : x < 16) (hW : WC C) (hls : ls.size = nL) (hR : (rmD 2).frames + 1 ≤ R.frames ∧ 8 + (7 + 11) + (rmD 2).locals ≤ R.locals) (hroom : (rest.map fun v => v.category).sum ≤ 8) (hf : cells ≤ R.cells ∧ slots ≤ R.slots) (hdg : decode cc pc = .ok (.invokevirtual 53, 3)) (kk : ∀ (H : Heap) (locs : List Loc), GI D A s.heap (wX o a d (ftch C c x) T) H locs → W p l e R s m args below meth cd H locs cells slots Q (F0 m (pc + 3) ls rest)) : W p l e R s m args below meth cd H locs cells slots Q (F0 m pc ls (.int (nI x) :: .int (nI c) :: .ref o :: rest)) := g_callv (ci := 0) (q0 := 0) (n := 2) (As := [.int (nI c), .int (nI x)]) K hI (met_X0_fetch hc hx hW) (lw_V q91 q93 qs3 q22 q94) (by decide +kernel) ⟨rfl, rfl⟩ rfl rfl rfl rfl rfl hls hR hroom hf hdg kk
set_option maxHeartbeats 4000000 in
set_option maxRecDepth 100000 in
theorem lpX_store {p : Program} {l : Launch} {e : Env} {s : State} {m : MethodId} {args : Array Value} {below : List Frame} {meth : Method} {cd : Code} {D : va_G} {A : Nat → Prop} {o : Nat} {a : Nat → Nat} {d : Nat → ClassId} (K : GC RX0 (tysX d) D A p s m args cd cX0_store 7) (hr : meth.sig.returnType = none) (hlk : meth.locks = false) {wz : va_W} {T : TS} {c x : Nat} {v : Int32} (hc : c < 4) (hx : x < 16) : ∀ (n k : Nat) (C : CS) (H : Heap) (locs : List Loc) (ls : Array Slot), k + n = 4 → WC C → wX o a d (stF (stL c x n k C) c x v) T = wz → GI D A s.heap (wX o a d C T) H locs → lv_has ls 7 [(0, .ref o), (1, .int (nI c)), (2, .int (nI x)), (3, .int v), (4, .int (nI (lnO c x))), (5, .int (nI k))] → W p l e (rmD 3) s m args below meth cd H locs 0 0 (MQ below (gQv D (tysX d) A wz) args s 0 0 A) (F0 m 27 ls []) := by
  obtain ⟨hE, hB, hml, hown, hts, hK, hA⟩ := id K
  have hln := lnO_lt hc x
  intro n
  induction n with
  | zero =>
    intro k C H locs ls hkn hW hz hI hl
    obtain rfl : k = 4 := by omega
    refine lv_iload hE hB dX0_store_27 (lv_at hl 5 rfl) ?_
    refine lv_iconst (v := nI 4) hE hB dX0_store_29 (by decide) ?_
    refine n_ic_ge (tgt := 71) hE hB (by omega) (by omega) dX0_store_30 (by decide) (fun h_30 => ?_) (fun h_30 => ?_)
    · refine lv_aload_n hE hB dX0_store_71 rfl (lv_at hl 0 rfl) ?_
      refine xg2 hE hB hts hown hK hI dX0_store_72 ?_
      refine lv_iload hE hB dX0_store_75 (lv_at hl 4 rfl) ?_
      refine lv_iconst (v := nI 3) hE hB dX0_store_77 (by decide) ?_
      refine xs2 hE hB hK hI (i := (lnO c x)) (v := 3) hln (by omega) dX0_store_78 (fun H locs hI => ?_)
      have hI : GI D A s.heap (wX o a d (cM C, cG C, upN (cS C) (lnO c x) 3, cD C) T) H locs := hI
      refine lv_aload_n hE hB dX0_store_79 rfl (lv_at hl 0 rfl) ?_
      refine xg3 hE hB hts hown hK hI dX0_store_80 ?_
      refine lv_iload hE hB dX0_store_83 (lv_at hl 4 rfl) ?_
      refine lv_iload_n hE hB dX0_store_85 rfl (lv_at hl 3 rfl) ?_
      refine xs3 hE hB hK hI (i := (lnO c x)) (v := v) hln dX0_store_86 (fun H locs hI => ?_)
      have hI : GI D A s.heap (wX o a d (cM C, cG C, upN (cS C) (lnO c x) 3, upd (cD C) (lnO c x) v) T) H locs := hI
      exact g_vret K hr hlk hI (by rw [← hz]; rfl) dX0_store_87
    · exact absurd h_30 (by decide)
  | succ n ih =>
    intro k C H locs ls hkn hW hz hI hl
    refine lv_iload hE hB dX0_store_27 (lv_at hl 5 rfl) ?_
    refine lv_iconst (v := nI 4) hE hB dX0_store_29 (by decide) ?_
    refine n_ic_ge (tgt := 71) hE hB (by omega) (by omega) dX0_store_30 (by decide) (fun h_30 => ?_) (fun h_30 => ?_)
    · omega
    · refine lv_iload hE hB dX0_store_33 (lv_at hl 5 rfl) ?_
      refine lv_iload_n hE hB dX0_store_35 rfl (lv_at hl 1 rfl) ?_
      refine n_ic_eq (tgt := 65) hE hB (by omega) (by omega) dX0_store_36 (by decide) (fun h_36 => ?_) (fun h_36 => ?_)
      · refine lv_iinc (v := (nI (k + 1))) (lv' := [(5, .int (nI (k + 1))), (0, .ref o), (1, .int (nI c)), (2, .int (nI x)), (3, .int v), (4, .int (nI (lnO c x)))]) hE hB dX0_store_65 hl (k := 5) rfl (nI_1 _) (by decide) rfl (fun ls hl => ?_)
        refine lv_goto (tgt := 27) hE hB dX0_store_68 (by decide) ?_
        exact ih (k + 1) C H locs ls (by omega) hW (by rw [← hz]; simp [stL, h_30, h_36]) hI (lv_sub hl [1, 2, 3, 4, 5, 0] rfl)
      · refine lv_aload_n hE hB dX0_store_39 rfl (lv_at hl 0 rfl) ?_
        refine lv_iload hE hB dX0_store_40 (lv_at hl 5 rfl) ?_
        refine lv_iload_n hE hB dX0_store_42 rfl (lv_at hl 2 rfl) ?_
        refine kX0_holds K hI (by omega) (by omega) hW rfl hl.1 ⟨Nat.le_of_ble_eq_true rfl, Nat.le_of_ble_eq_true rfl⟩ (Nat.le_of_ble_eq_true rfl) ⟨Nat.zero_le _, Nat.zero_le _⟩ dX0_store_43 (fun H locs hI => ?_)
        have b46 := hld_le C k x
        refine n_if_eq (tgt := 65) hE hB (by omega) dX0_store_46 (by decide) (fun h_46 => ?_) (fun h_46 => ?_)
        · refine lv_iinc (v := (nI (k + 1))) (lv' := [(5, .int (nI (k + 1))), (0, .ref o), (1, .int (nI c)), (2, .int (nI x)), (3, .int v), (4, .int (nI (lnO c x)))]) hE hB dX0_store_65 hl (k := 5) rfl (nI_1 _) (by decide) rfl (fun ls hl => ?_)
          refine lv_goto (tgt := 27) hE hB dX0_store_68 (by decide) ?_
          exact ih (k + 1) C H locs ls (by omega) hW (by rw [← hz]; simp [stL, h_30, h_36, h_46]) hI (lv_sub hl [1, 2, 3, 4, 5, 0] rfl)
        · refine lv_iload hE hB dX0_store_49 (lv_at hl 5 rfl) ?_
          refine lv_iload_n hE hB dX0_store_51 rfl (lv_at hl 2 rfl) ?_
          refine kX0_lineOf K hI (by omega) rfl hl.1 ⟨Nat.le_of_ble_eq_true rfl, Nat.le_of_ble_eq_true rfl⟩ (Nat.le_of_ble_eq_true rfl) ⟨Nat.zero_le _, Nat.zero_le _⟩ dX0_store_52 (fun H locs hI => ?_)
          refine lv_istore (lv' := [(6, .int (nI (lnO k x))), (0, .ref o), (1, .int (nI c)), (2, .int (nI x)), (3, .int v), (4, .int (nI (lnO c x))), (5, .int (nI k))]) hE hB dX0_store_55 hl (by decide) rfl (fun ls hl => ?_)
          have hlk6 := lnO_lt (show k < 4 by omega) x
          refine lv_aload_n hE hB dX0_store_57 rfl (lv_at hl 1 rfl) ?_
          refine xg2 hE hB hts hown hK hI dX0_store_58 ?_
          refine lv_iload hE hB dX0_store_61 (lv_at hl 0 rfl) ?_
          refine lv_iconst (v := nI 0) hE hB dX0_store_63 (by decide) ?_
          refine xs2 hE hB hK hI (i := (lnO k x)) (v := 0) hlk6 (by omega) dX0_store_64 (fun H locs hI => ?_)
          have hI : GI D A s.heap (wX o a d (cM C, cG C, upN (cS C) (lnO k x) 0, cD C) T) H locs := hI
          refine lv_iinc (v := (nI (k + 1))) (lv' := [(5, .int (nI (k + 1))), (6, .int (nI (lnO k x))), (0, .ref o), (1, .int (nI c)), (2, .int (nI x)), (3, .int v), (4, .int (nI (lnO c x)))]) hE hB dX0_store_65 hl (k := 6) rfl (nI_1 _) (by decide) rfl (fun ls hl => ?_)
          refine lv_goto (tgt := 27) hE hB dX0_store_68 (by decide) ?_
          exact ih (k + 1) (stS C (lnO k x) 0) H locs ls (by omega) (WC_stS hW _ (by omega)) (by rw [← hz]; simp [stL, h_30, h_36, h_46]) hI (lv_sub hl [2, 3, 4, 5, 6, 0] rfl)
set_option maxHeartbeats 4000000 in
set_option maxRecDepth 100000 in
theorem met_X0_store {l : Launch} {D : va_G} {o : Nat} {a : Nat → Nat} {d : Nat → ClassId} {C : CS} {T : TS} {c x : Nat} {v : Int32} (hc : c < 4) (hx : x < 16) (hW : WC C) : GMv l yX0_store (ws_ yX0_store cX0_store 7 none) (rmD 3) D (tysX d) (wX o a d C T) [.ref o, .int (nI c), .int (nI x), .int v] (wX o a d (stor C c x v) T) := by
  refine GMv.of (by decide) (Nat.le_of_ble_eq_true rfl) ?_
  intro p e s m args below meth cd A ls K hr hlk hI hl
  have K : GC RX0 (tysX d) D A p s m args cd cX0_store 7 := K
  have hl : lv_has ls 7 [(0, .ref o), (1, .int (nI c)), (2, .int (nI x)), (3, .int v)] := hl
  obtain ⟨hE, hB, hml, hown, hts, hK, hA⟩ := id K
  refine lv_aload_n hE hB dX0_store_0 rfl (lv_at hl 0 rfl) ?_
  refine lv_iload_n hE hB dX0_store_1 rfl (lv_at hl 1 rfl) ?_
  refine lv_iload_n hE hB dX0_store_2 rfl (lv_at hl 2 rfl) ?_
  refine kX0_fetch K hI (by omega) (by omega) hW hl.1 ⟨Nat.le_of_ble_eq_true rfl, Nat.le_of_ble_eq_true rfl⟩ (Nat.le_of_ble_eq_true rfl) ⟨Nat.zero_le _, Nat.zero_le _⟩ dX0_store_3 (fun H locs hI => ?_)
  refine lv_iload_n hE hB dX0_store_6 rfl (lv_at hl 1 rfl) ?_
  refine lv_iload_n hE hB dX0_store_7 rfl (lv_at hl 2 rfl) ?_
  refine kX0_lineOf K hI (by omega) rfl hl.1 ⟨Nat.le_of_ble_eq_true rfl, Nat.le_of_ble_eq_true rfl⟩ (Nat.le_of_ble_eq_true rfl) ⟨Nat.zero_le _, Nat.zero_le _⟩ dX0_store_8 (fun H locs hI => ?_)
  refine lv_istore (lv' := [(4, .int (nI (lnO c x))), (0, .ref o), (1, .int (nI c)), (2, .int (nI x)), (3, .int v)]) hE hB dX0_store_11 hl (by decide) rfl (fun ls hl => ?_)
  refine lv_aload_n hE hB dX0_store_13 rfl (lv_at hl 1 rfl) ?_
  refine xg2 hE hB hts hown hK hI dX0_store_14 ?_
  refine lv_iload hE hB dX0_store_17 (lv_at hl 0 rfl) ?_
  have hln := lnO_lt hc x
  refine xl2 hE hB hK hI (i := (lnO c x)) hln dX0_store_19 ?_
  refine lv_iconst (v := nI 1) hE hB dX0_store_20 (by decide) ?_
  have b21 := (WC_ftch hW c hx).2 _ hln
  refine n_ic_ne (tgt := 71) hE hB (by omega) (by omega) dX0_store_21 (by decide) (fun h_21 => ?_) (fun h_21 => ?_)
  · refine lv_aload_n hE hB dX0_store_71 rfl (lv_at hl 1 rfl) ?_
    refine xg2 hE hB hts hown hK hI dX0_store_72 ?_
    refine lv_iload hE hB dX0_store_75 (lv_at hl 0 rfl) ?_
    refine lv_iconst (v := nI 3) hE hB dX0_store_77 (by decide) ?_
    refine xs2 hE hB hK hI (i := (lnO c x)) (v := 3) hln (by omega) dX0_store_78 (fun H locs hI => ?_)
    have hI : GI D A s.heap (wX o a d (cM (ftch C c x), cG (ftch C c x), upN (cS (ftch C c x)) (lnO c x) 3, cD (ftch C c x)) T) H locs := hI
    refine lv_aload_n hE hB dX0_store_79 rfl (lv_at hl 1 rfl) ?_
    refine xg3 hE hB hts hown hK hI dX0_store_80 ?_
    refine lv_iload hE hB dX0_store_83 (lv_at hl 0 rfl) ?_
    refine lv_iload_n hE hB dX0_store_85 rfl (lv_at hl 4 rfl) ?_
    refine xs3 hE hB hK hI (i := (lnO c x)) (v := v) hln dX0_store_86 (fun H locs hI => ?_)
    have hI : GI D A s.heap (wX o a d (cM (ftch C c x), cG (ftch C c x), upN (cS (ftch C c x)) (lnO c x) 3, upd (cD (ftch C c x)) (lnO c x) v) T) H locs := hI
    exact g_vret K hr hlk hI (by simp [stor, stF, h_21]) dX0_store_87
  · refine lv_iconst (v := nI 0) hE hB dX0_store_24 (by decide) ?_
    refine lv_istore (lv' := [(5, .int (nI 0)), (4, .int (nI (lnO c x))), (0, .ref o), (1, .int (nI c)), (2, .int (nI x)), (3, .int v)]) hE hB dX0_store_25 hl (by decide) rfl (fun ls hl => ?_)
    exact lpX_store K hr hlk hc hx 4 0 (ftch C c x) _ _ ls rfl (WC_ftch hW c hx) (by simp [stor, h_21]) hI (lv_sub hl [2, 3, 4, 5, 1, 0] rfl)
set_option maxHeartbeats 4000000 in
set_option maxRecDepth 100000 in
theorem kX0_store {p : Program} {l : Launch} {e : Env} {R : Room} {s : State} {m : MethodId} {args : Array Value} {below : List Frame} {meth : Method} {cd : Code} {H : Heap} {locs : List Loc} {cells slots : Nat} {Q : State → Prop} {cc : ByteArray} {pc : Nat} {ls : Array Slot} {rest : List Value} {D : va_G} {A : Nat → Prop} {nL : Nat} {o : Nat} {a : Nat → Nat} {d : Nat → ClassId} {C : CS} {T : TS} (K : GC RX0 (tysX d) D A p s m args cd cc nL) (hI : GI D A s.heap (wX o a d C T) H locs) {c x : Nat} {v : Int32} (hc : c < 4) (hx : x < 16) (hW : WC C) (hls : ls.size = nL) (hR : (rmD 3).frames + 1 ≤ R.frames ∧ 8 + (7 + 11) + (rmD 3).locals ≤ R.locals) (hroom : (rest.map fun v => v.category).sum ≤ 8) (hf : cells ≤ R.cells ∧ slots ≤ R.slots) (hdg : decode cc pc = .ok (.invokevirtual 77, 3)) (kk : ∀ (H : Heap) (locs : List Loc), GI D A s.heap (wX o a d (stor C c x v) T) H locs → W p l e R s m args below meth cd H locs cells slots Q (F0 m (pc + 3) ls rest)) : W p l e R s m args below meth cd H locs cells slots Q (F0 m pc ls (.int v :: .int (nI x) :: .int (nI c) :: .ref o :: rest)) := g_callv (ci := 0) (q0 := 0) (n := 3) (As := [.int (nI c), .int (nI x), .int v]) K hI (met_X0_store hc hx hW) (lw_V q142 q144 qs13 q22 q145) (by decide +kernel) ⟨rfl, rfl⟩ rfl rfl rfl rfl rfl hls hR hroom hf hdg kk
end
section
/-! contracts: sets and logs -/
set_option maxHeartbeats 4000000 in
set_option maxRecDepth 100000 in
theorem lpX_readSet {p : Program} {l : Launch} {e : Env} {s : State} {m : MethodId} {args : Array Value} {below : List Frame} {meth : Method} {cd : Code} {D : va_G} {A : Nat → Prop} {o : Nat} {a : Nat → Nat} {d : Nat → ClassId} (K : GC RX0 (tysX d) D A p s m args cd cX0_readSet 4) (hr : meth.sig.returnType = some .int) (hlk : meth.locks = false) {wz : va_W} {r : Int32} {C : CS} {T : TS} {c : Nat} (hc : c < 4) (hT : WT T) : ∀ (n k : Nat) (acc : Int32) (H : Heap) (locs : List Loc) (ls : Array Slot), k + n = tL T c → wX o a d C T = wz → rsL (tR T) (c * 3) n k acc = r → GI D A s.heap (wX o a d C T) H locs → lv_has ls 4 [(0, .ref o), (1, .int (nI c)), (2, .int acc), (3, .int (nI k))] → W p l e (rmD 0) s m args below meth cd H locs 0 0 (MQ below (gQi D (tysX d) A wz r) args s 0 0 A) (F0 m 4 ls []) := by
  obtain ⟨hE, hB, hml, hown, hts, hK, hA⟩ := id K
  have hlv := hT.1 c hc
  intro n
  induction n with
  | zero =>
    intro k acc H locs ls hkn hz hres hI hl
    refine lv_iload_n hE hB dX0_readSet_4 rfl (lv_at hl 3 rfl) ?_
    refine lv_aload_n hE hB dX0_readSet_5 rfl (lv_at hl 0 rfl) ?_
    refine xg4 hE hB hts hown hK hI dX0_readSet_6 ?_
    refine lv_iload_n hE hB dX0_readSet_9 rfl (lv_at hl 1 rfl) ?_
    refine xl4 hE hB hK hI (i := c) (by omega) dX0_readSet_10 ?_
    refine n_ic_ge (tgt := 33) hE hB (by omega) (by omega) dX0_readSet_11 (by decide) (fun h_11 => ?_) (fun h_11 => ?_)
    · refine lv_iload_n hE hB dX0_readSet_33 rfl (lv_at hl 2 rfl) ?_
      exact g_iret K hr hlk hI hz (by rw [← hres]; rfl) dX0_readSet_34
    · omega
  | succ n ih =>
    intro k acc H locs ls hkn hz hres hI hl
    refine lv_iload_n hE hB dX0_readSet_4 rfl (lv_at hl 3 rfl) ?_
    refine lv_aload_n hE hB dX0_readSet_5 rfl (lv_at hl 0 rfl) ?_
    refine xg4 hE hB hts hown hK hI dX0_readSet_6 ?_
    refine lv_iload_n hE hB dX0_readSet_9 rfl (lv_at hl 1 rfl) ?_
    refine xl4 hE hB hK hI (i := c) (by omega) dX0_readSet_10 ?_
    refine n_ic_ge (tgt := 33) hE hB (by omega) (by omega) dX0_readSet_11 (by decide) (fun h_11 => ?_) (fun h_11 => ?_)
    · omega
    · refine lv_iload_n hE hB dX0_readSet_14 rfl (lv_at hl 2 rfl) ?_
      refine lv_aload_n hE hB dX0_readSet_15 rfl (lv_at hl 0 rfl) ?_
      refine xg5 hE hB hts hown hK hI dX0_readSet_16 ?_
      refine lv_iload_n hE hB dX0_readSet_19 rfl (lv_at hl 1 rfl) ?_
      refine lv_iconst (v := nI 3) hE hB dX0_readSet_20 (by decide) ?_
      refine n_mul hE hB dX0_readSet_21 ?_
      refine lv_iload_n hE hB dX0_readSet_22 rfl (lv_at hl 3 rfl) ?_
      refine n_add hE hB dX0_readSet_23 ?_
      refine xl5 hE hB hK hI (i := ((c * 3) + k)) (by omega) dX0_readSet_24 ?_
      refine lv_ior hE hB dX0_readSet_25 ?_
      refine lv_istore_n (lv' := [(2, .int (acc ||| (tR T ((c * 3) + k)))), (0, .ref o), (1, .int (nI c)), (3, .int (nI k))]) hE hB dX0_readSet_26 rfl hl (by decide) rfl (fun ls hl => ?_)
      refine lv_iinc (v := (nI (k + 1))) (lv' := [(3, .int (nI (k + 1))), (2, .int (acc ||| (tR T ((c * 3) + k)))), (0, .ref o), (1, .int (nI c))]) hE hB dX0_readSet_27 hl (k := 3) rfl (nI_1 _) (by decide) rfl (fun ls hl => ?_)
      refine lv_goto (tgt := 4) hE hB dX0_readSet_30 (by decide) ?_
      exact ih (k + 1) (acc ||| tR T (c * 3 + k)) H locs ls (by omega) hz (by rw [← hres]; rfl) hI (lv_sub hl [2, 3, 1, 0] rfl)
set_option maxHeartbeats 4000000 in
set_option maxRecDepth 100000 in
theorem met_X0_readSet {l : Launch} {D : va_G} {o : Nat} {a : Nat → Nat} {d : Nat → ClassId} {C : CS} {T : TS} {c : Nat} (hc : c < 4) (hT : WT T) : GMi l yX0_readSet (ws_ yX0_readSet cX0_readSet 4 (some .int)) (rmD 0) D (tysX d) (wX o a d C T) [.ref o, .int (nI c)] (wX o a d C T) (rset T c) := by
  refine GMi.of (by decide) (Nat.le_of_ble_eq_true rfl) ?_
  intro p e s m args below meth cd A ls K hr hlk hI hl
  have K : GC RX0 (tysX d) D A p s m args cd cX0_readSet 4 := K
  have hl : lv_has ls 4 [(0, .ref o), (1, .int (nI c))] := hl
  obtain ⟨hE, hB, hml, hown, hts, hK, hA⟩ := id K
  refine lv_iconst (v := nI 0) hE hB dX0_readSet_0 (by decide) ?_
  refine lv_istore_n (lv' := [(2, .int (nI 0)), (0, .ref o), (1, .int (nI c))]) hE hB dX0_readSet_1 rfl hl (by decide) rfl (fun ls hl => ?_)
  refine lv_iconst (v := nI 0) hE hB dX0_readSet_2 (by decide) ?_
  refine lv_istore_n (lv' := [(3, .int (nI 0)), (2, .int (nI 0)), (0, .ref o), (1, .int (nI c))]) hE hB dX0_readSet_3 rfl hl (by decide) rfl (fun ls hl => ?_)
  exact lpX_readSet K hr hlk hc hT (tL T c) 0 (nI 0) _ _ ls (Nat.zero_add _) rfl rfl hI (lv_sub hl [2, 3, 1, 0] rfl)
set_option maxHeartbeats 4000000 in
set_option maxRecDepth 100000 in
theorem kX0_readSet {p : Program} {l : Launch} {e : Env} {R : Room} {s : State} {m : MethodId} {args : Array Value} {below : List Frame} {meth : Method} {cd : Code} {H : Heap} {locs : List Loc} {cells slots : Nat} {Q : State → Prop} {cc : ByteArray} {pc : Nat} {ls : Array Slot} {rest : List Value} {D : va_G} {A : Nat → Prop} {nL : Nat} {o : Nat} {a : Nat → Nat} {d : Nat → ClassId} {C : CS} {T : TS} (K : GC RX0 (tysX d) D A p s m args cd cc nL) (hI : GI D A s.heap (wX o a d C T) H locs) {c : Nat} (hc : c < 4) (hT : WT T) {v : Int32} (hv : rset T c = v) (hls : ls.size = nL) (hR : (rmD 0).frames + 1 ≤ R.frames ∧ 8 + (4 + 11) + (rmD 0).locals ≤ R.locals) (hroom : (rest.map fun v => v.category).sum ≤ 8) (hf : cells ≤ R.cells ∧ slots ≤ R.slots) (hdg : decode cc pc = .ok (.invokevirtual 61, 3)) (kk : ∀ (H : Heap) (locs : List Loc), GI D A s.heap (wX o a d C T) H locs → W p l e R s m args below meth cd H locs cells slots Q (F0 m (pc + 3) ls (.int v :: rest))) : W p l e R s m args below meth cd H locs cells slots Q (F0 m pc ls (.int (nI c) :: .ref o :: rest)) := g_calli (ci := 0) (q0 := 0) (n := 1) (As := [.int (nI c)]) K hI (met_X0_readSet hc hT) hv (lw_V q87 q89 qs2 q22 q90) (by decide +kernel) ⟨rfl, rfl⟩ rfl rfl rfl rfl rfl hls hR hroom hf hdg kk
set_option maxHeartbeats 4000000 in
set_option maxRecDepth 100000 in
theorem lpX_writtenSet {p : Program} {l : Launch} {e : Env} {s : State} {m : MethodId} {args : Array Value} {below : List Frame} {meth : Method} {cd : Code} {D : va_G} {A : Nat → Prop} {o : Nat} {a : Nat → Nat} {d : Nat → ClassId} (K : GC RX0 (tysX d) D A p s m args cd cX0_writtenSet 4) (hr : meth.sig.returnType = some .int) (hlk : meth.locks = false) {wz : va_W} {r : Int32} {C : CS} {T : TS} {c : Nat} (hc : c < 4) (hT : WT T) : ∀ (n k : Nat) (acc : Int32) (H : Heap) (locs : List Loc) (ls : Array Slot), k + n = tL T c → wX o a d C T = wz → rsL (tW T) (c * 3) n k acc = r → GI D A s.heap (wX o a d C T) H locs → lv_has ls 4 [(0, .ref o), (1, .int (nI c)), (2, .int acc), (3, .int (nI k))] → W p l e (rmD 0) s m args below meth cd H locs 0 0 (MQ below (gQi D (tysX d) A wz r) args s 0 0 A) (F0 m 4 ls []) := by
  obtain ⟨hE, hB, hml, hown, hts, hK, hA⟩ := id K
  have hlv := hT.1 c hc
  intro n
  induction n with
  | zero =>
    intro k acc H locs ls hkn hz hres hI hl
    refine lv_iload_n hE hB dX0_writtenSet_4 rfl (lv_at hl 3 rfl) ?_
    refine lv_aload_n hE hB dX0_writtenSet_5 rfl (lv_at hl 0 rfl) ?_
    refine xg4 hE hB hts hown hK hI dX0_writtenSet_6 ?_
    refine lv_iload_n hE hB dX0_writtenSet_9 rfl (lv_at hl 1 rfl) ?_
    refine xl4 hE hB hK hI (i := c) (by omega) dX0_writtenSet_10 ?_
    refine n_ic_ge (tgt := 33) hE hB (by omega) (by omega) dX0_writtenSet_11 (by decide) (fun h_11 => ?_) (fun h_11 => ?_)
    · refine lv_iload_n hE hB dX0_writtenSet_33 rfl (lv_at hl 2 rfl) ?_
      exact g_iret K hr hlk hI hz (by rw [← hres]; rfl) dX0_writtenSet_34
    · omega
  | succ n ih =>
    intro k acc H locs ls hkn hz hres hI hl
    refine lv_iload_n hE hB dX0_writtenSet_4 rfl (lv_at hl 3 rfl) ?_
    refine lv_aload_n hE hB dX0_writtenSet_5 rfl (lv_at hl 0 rfl) ?_
    refine xg4 hE hB hts hown hK hI dX0_writtenSet_6 ?_
    refine lv_iload_n hE hB dX0_writtenSet_9 rfl (lv_at hl 1 rfl) ?_
    refine xl4 hE hB hK hI (i := c) (by omega) dX0_writtenSet_10 ?_
    refine n_ic_ge (tgt := 33) hE hB (by omega) (by omega) dX0_writtenSet_11 (by decide) (fun h_11 => ?_) (fun h_11 => ?_)
    · omega
    · refine lv_iload_n hE hB dX0_writtenSet_14 rfl (lv_at hl 2 rfl) ?_
      refine lv_aload_n hE hB dX0_writtenSet_15 rfl (lv_at hl 0 rfl) ?_
      refine xg6 hE hB hts hown hK hI dX0_writtenSet_16 ?_
      refine lv_iload_n hE hB dX0_writtenSet_19 rfl (lv_at hl 1 rfl) ?_
      refine lv_iconst (v := nI 3) hE hB dX0_writtenSet_20 (by decide) ?_
      refine n_mul hE hB dX0_writtenSet_21 ?_
      refine lv_iload_n hE hB dX0_writtenSet_22 rfl (lv_at hl 3 rfl) ?_
      refine n_add hE hB dX0_writtenSet_23 ?_
      refine xl6 hE hB hK hI (i := ((c * 3) + k)) (by omega) dX0_writtenSet_24 ?_
      refine lv_ior hE hB dX0_writtenSet_25 ?_
      refine lv_istore_n (lv' := [(2, .int (acc ||| (tW T ((c * 3) + k)))), (0, .ref o), (1, .int (nI c)), (3, .int (nI k))]) hE hB dX0_writtenSet_26 rfl hl (by decide) rfl (fun ls hl => ?_)
      refine lv_iinc (v := (nI (k + 1))) (lv' := [(3, .int (nI (k + 1))), (2, .int (acc ||| (tW T ((c * 3) + k)))), (0, .ref o), (1, .int (nI c))]) hE hB dX0_writtenSet_27 hl (k := 3) rfl (nI_1 _) (by decide) rfl (fun ls hl => ?_)
      refine lv_goto (tgt := 4) hE hB dX0_writtenSet_30 (by decide) ?_
      exact ih (k + 1) (acc ||| tW T (c * 3 + k)) H locs ls (by omega) hz (by rw [← hres]; rfl) hI (lv_sub hl [2, 3, 1, 0] rfl)
set_option maxHeartbeats 4000000 in
set_option maxRecDepth 100000 in
theorem met_X0_writtenSet {l : Launch} {D : va_G} {o : Nat} {a : Nat → Nat} {d : Nat → ClassId} {C : CS} {T : TS} {c : Nat} (hc : c < 4) (hT : WT T) : GMi l yX0_writtenSet (ws_ yX0_writtenSet cX0_writtenSet 4 (some .int)) (rmD 0) D (tysX d) (wX o a d C T) [.ref o, .int (nI c)] (wX o a d C T) (wset T c) := by
  refine GMi.of (by decide) (Nat.le_of_ble_eq_true rfl) ?_
  intro p e s m args below meth cd A ls K hr hlk hI hl
  have K : GC RX0 (tysX d) D A p s m args cd cX0_writtenSet 4 := K
  have hl : lv_has ls 4 [(0, .ref o), (1, .int (nI c))] := hl
  obtain ⟨hE, hB, hml, hown, hts, hK, hA⟩ := id K
  refine lv_iconst (v := nI 0) hE hB dX0_writtenSet_0 (by decide) ?_
  refine lv_istore_n (lv' := [(2, .int (nI 0)), (0, .ref o), (1, .int (nI c))]) hE hB dX0_writtenSet_1 rfl hl (by decide) rfl (fun ls hl => ?_)
  refine lv_iconst (v := nI 0) hE hB dX0_writtenSet_2 (by decide) ?_
  refine lv_istore_n (lv' := [(3, .int (nI 0)), (2, .int (nI 0)), (0, .ref o), (1, .int (nI c))]) hE hB dX0_writtenSet_3 rfl hl (by decide) rfl (fun ls hl => ?_)
  exact lpX_writtenSet K hr hlk hc hT (tL T c) 0 (nI 0) _ _ ls (Nat.zero_add _) rfl rfl hI (lv_sub hl [2, 3, 1, 0] rfl)
set_option maxHeartbeats 4000000 in
set_option maxRecDepth 100000 in
theorem kX0_writtenSet {p : Program} {l : Launch} {e : Env} {R : Room} {s : State} {m : MethodId} {args : Array Value} {below : List Frame} {meth : Method} {cd : Code} {H : Heap} {locs : List Loc} {cells slots : Nat} {Q : State → Prop} {cc : ByteArray} {pc : Nat} {ls : Array Slot} {rest : List Value} {D : va_G} {A : Nat → Prop} {nL : Nat} {o : Nat} {a : Nat → Nat} {d : Nat → ClassId} {C : CS} {T : TS} (K : GC RX0 (tysX d) D A p s m args cd cc nL) (hI : GI D A s.heap (wX o a d C T) H locs) {c : Nat} (hc : c < 4) (hT : WT T) {v : Int32} (hv : wset T c = v) (hls : ls.size = nL) (hR : (rmD 0).frames + 1 ≤ R.frames ∧ 8 + (4 + 11) + (rmD 0).locals ≤ R.locals) (hroom : (rest.map fun v => v.category).sum ≤ 8) (hf : cells ≤ R.cells ∧ slots ≤ R.slots) (hdg : decode cc pc = .ok (.invokevirtual 57, 3)) (kk : ∀ (H : Heap) (locs : List Loc), GI D A s.heap (wX o a d C T) H locs → W p l e R s m args below meth cd H locs cells slots Q (F0 m (pc + 3) ls (.int v :: rest))) : W p l e R s m args below meth cd H locs cells slots Q (F0 m pc ls (.int (nI c) :: .ref o :: rest)) := g_calli (ci := 0) (q0 := 0) (n := 1) (As := [.int (nI c)]) K hI (met_X0_writtenSet hc hT) hv (lw_V q83 q85 qs1 q22 q86) (by decide +kernel) ⟨rfl, rfl⟩ rfl rfl rfl rfl rfl hls hR hroom hf hdg kk
set_option maxHeartbeats 4000000 in
set_option maxRecDepth 100000 in
theorem lpX_rivalsOf {p : Program} {l : Launch} {e : Env} {s : State} {m : MethodId} {args : Array Value} {below : List Frame} {meth : Method} {cd : Code} {D : va_G} {A : Nat → Prop} {o : Nat} {a : Nat → Nat} {d : Nat → ClassId} (K : GC RX0 (tysX d) D A p s m args cd cX0_rivalsOf 7) (hr : meth.sig.returnType = some .int) (hlk : meth.locks = false) {wz : va_W} {r : Int32} {C : CS} {T : TS} {c x w : Nat} (hc : c < 4) (hx : x < 16) (hw : w < 2) (hT : WT T) : ∀ (n k : Nat) (acc : Int32) (H : Heap) (locs : List Loc) (ls : Array Slot), k + n = 4 → wX o a d C T = wz → rvL (thr T w) c x n k acc = r → GI D A s.heap (wX o a d C T) H locs → lv_has ls 7 [(0, .ref o), (1, .int (nI c)), (2, .int (nI x)), (3, .int (nI w)), (4, .int acc), (5, .int (nI k))] → W p l e (rmD 1) s m args below meth cd H locs 0 0 (MQ below (gQi D (tysX d) A wz r) args s 0 0 A) (F0 m 6 ls []) := by
  obtain ⟨hE, hB, hml, hown, hts, hK, hA⟩ := id K
  intro n
  induction n with
  | zero =>
    intro k acc H locs ls hkn hz hres hI hl
    obtain rfl : k = 4 := by omega
    refine lv_iload hE hB dX0_rivalsOf_6 (lv_at hl 5 rfl) ?_
    refine lv_iconst (v := nI 4) hE hB dX0_rivalsOf_8 (by decide) ?_
    refine n_ic_ge (tgt := 69) hE hB (by omega) (by omega) dX0_rivalsOf_9 (by decide) (fun h_9 => ?_) (fun h_9 => ?_)
    · refine lv_iload hE hB dX0_rivalsOf_69 (lv_at hl 4 rfl) ?_
      exact g_iret K hr hlk hI hz (by rw [← hres]; rfl) dX0_rivalsOf_71
    · exact absurd h_9 (by decide)
  | succ n ih =>
    intro k acc H locs ls hkn hz hres hI hl
    refine lv_iload hE hB dX0_rivalsOf_6 (lv_at hl 5 rfl) ?_
    refine lv_iconst (v := nI 4) hE hB dX0_rivalsOf_8 (by decide) ?_
    refine n_ic_ge (tgt := 69) hE hB (by omega) (by omega) dX0_rivalsOf_9 (by decide) (fun h_9 => ?_) (fun h_9 => ?_)
    · omega
    · refine lv_aload_n hE hB dX0_rivalsOf_12 rfl (lv_at hl 0 rfl) ?_
      refine lv_iload hE hB dX0_rivalsOf_13 (lv_at hl 5 rfl) ?_
      refine kX0_writtenSet K hI (by omega) hT rfl hl.1 ⟨Nat.le_of_ble_eq_true rfl, Nat.le_of_ble_eq_true rfl⟩ (Nat.le_of_ble_eq_true rfl) ⟨Nat.zero_le _, Nat.zero_le _⟩ dX0_rivalsOf_15 (fun H locs hI => ?_)
      refine lv_istore (lv' := [(6, .int (wset T k)), (0, .ref o), (1, .int (nI c)), (2, .int (nI x)), (3, .int (nI w)), (4, .int acc), (5, .int (nI k))]) hE hB dX0_rivalsOf_18 hl (by decide) rfl (fun ls hl => ?_)
      refine lv_iload_n hE hB dX0_rivalsOf_20 rfl (lv_at hl 4 rfl) ?_
      refine n_if_eq (tgt := 35) hE hB (by omega) dX0_rivalsOf_21 (by decide) (fun h_21 => ?_) (fun h_21 => ?_)
      · refine lv_iload hE hB dX0_rivalsOf_35 (lv_at hl 5 rfl) ?_
        refine lv_iload hE hB dX0_rivalsOf_37 (lv_at hl 6 rfl) ?_
        refine lv_iload_n hE hB dX0_rivalsOf_39 rfl (lv_at hl 2 rfl) ?_
        refine n_ic_eq (tgt := 59) hE hB (by omega) (by omega) dX0_rivalsOf_40 (by decide) (fun h_40 => ?_) (fun h_40 => ?_)
        · refine lv_iconst (v := nI 0) hE hB dX0_rivalsOf_59 (by decide) ?_
          refine lv_ior hE hB dX0_rivalsOf_60 ?_
          refine lv_istore (lv' := [(4, .int (acc ||| (nI 0))), (6, .int (wset T k)), (0, .ref o), (1, .int (nI c)), (2, .int (nI x)), (3, .int (nI w)), (5, .int (nI k))]) hE hB dX0_rivalsOf_61 hl (by decide) rfl (fun ls hl => ?_)
          refine lv_iinc (v := (nI (k + 1))) (lv' := [(5, .int (nI (k + 1))), (4, .int (acc ||| (nI 0))), (6, .int (wset T k)), (0, .ref o), (1, .int (nI c)), (2, .int (nI x)), (3, .int (nI w))]) hE hB dX0_rivalsOf_63 hl (k := 6) rfl (nI_1 _) (by decide) rfl (fun ls hl => ?_)
          refine lv_goto (tgt := 6) hE hB dX0_rivalsOf_66 (by decide) ?_
          exact ih (k + 1) (acc ||| (nI 0)) H locs ls (by omega) hz (by rw [← hres]; simp [rvL, rvS, thr, h_9, h_21, h_40]) hI (lv_sub hl [3, 4, 5, 6, 1, 0] rfl)
        · refine lv_iload hE hB dX0_rivalsOf_43 (lv_at hl 0 rfl) ?_
          refine lv_iload_n hE hB dX0_rivalsOf_45 rfl (lv_at hl 3 rfl) ?_
          refine lv_ishr hE hB dX0_rivalsOf_46 ?_
          refine lv_iconst (v := nI 1) hE hB dX0_rivalsOf_47 (by decide) ?_
          refine n_bit hE hB (by omega) dX0_rivalsOf_48 ?_
          refine n_if_eq (tgt := 59) hE hB (Nat.lt_of_le_of_lt (bN_le _ _) (by decide)) dX0_rivalsOf_49 (by decide) (fun h_49 => ?_) (fun h_49 => ?_)
          · refine lv_iconst (v := nI 0) hE hB dX0_rivalsOf_59 (by decide) ?_
            refine lv_ior hE hB dX0_rivalsOf_60 ?_
            refine lv_istore (lv' := [(4, .int (acc ||| (nI 0))), (6, .int (wset T k)), (0, .ref o), (1, .int (nI c)), (2, .int (nI x)), (3, .int (nI w)), (5, .int (nI k))]) hE hB dX0_rivalsOf_61 hl (by decide) rfl (fun ls hl => ?_)
            refine lv_iinc (v := (nI (k + 1))) (lv' := [(5, .int (nI (k + 1))), (4, .int (acc ||| (nI 0))), (6, .int (wset T k)), (0, .ref o), (1, .int (nI c)), (2, .int (nI x)), (3, .int (nI w))]) hE hB dX0_rivalsOf_63 hl (k := 6) rfl (nI_1 _) (by decide) rfl (fun ls hl => ?_)
            refine lv_goto (tgt := 6) hE hB dX0_rivalsOf_66 (by decide) ?_
            exact ih (k + 1) (acc ||| (nI 0)) H locs ls (by omega) hz (by rw [← hres]; simp [rvL, rvS, thr, h_9, h_21, h_40, h_49]) hI (lv_sub hl [3, 4, 5, 6, 1, 0] rfl)
          · refine lv_iconst (v := nI 1) hE hB dX0_rivalsOf_52 (by decide) ?_
            refine lv_iload hE hB dX0_rivalsOf_53 (lv_at hl 6 rfl) ?_
            refine n_shl hE hB dX0_rivalsOf_55 ?_
            refine lv_goto (tgt := 60) hE hB dX0_rivalsOf_56 (by decide) ?_
            refine lv_ior hE hB dX0_rivalsOf_60 ?_
            refine lv_istore (lv' := [(4, .int (acc ||| (b1 k))), (6, .int (wset T k)), (0, .ref o), (1, .int (nI c)), (2, .int (nI x)), (3, .int (nI w)), (5, .int (nI k))]) hE hB dX0_rivalsOf_61 hl (by decide) rfl (fun ls hl => ?_)
            refine lv_iinc (v := (nI (k + 1))) (lv' := [(5, .int (nI (k + 1))), (4, .int (acc ||| (b1 k))), (6, .int (wset T k)), (0, .ref o), (1, .int (nI c)), (2, .int (nI x)), (3, .int (nI w))]) hE hB dX0_rivalsOf_63 hl (k := 6) rfl (nI_1 _) (by decide) rfl (fun ls hl => ?_)
            refine lv_goto (tgt := 6) hE hB dX0_rivalsOf_66 (by decide) ?_
            exact ih (k + 1) (acc ||| (b1 k)) H locs ls (by omega) hz (by rw [← hres]; simp [rvL, rvS, thr, h_9, h_21, h_40, h_49]) hI (lv_sub hl [3, 4, 5, 6, 1, 0] rfl)
      · refine lv_iload hE hB dX0_rivalsOf_24 (lv_at hl 0 rfl) ?_
        refine lv_aload_n hE hB dX0_rivalsOf_26 rfl (lv_at hl 1 rfl) ?_
        refine lv_iload hE hB dX0_rivalsOf_27 (lv_at hl 6 rfl) ?_
        refine kX0_readSet K hI (by omega) hT rfl hl.1 ⟨Nat.le_of_ble_eq_true rfl, Nat.le_of_ble_eq_true rfl⟩ (Nat.le_of_ble_eq_true rfl) ⟨Nat.zero_le _, Nat.zero_le _⟩ dX0_rivalsOf_29 (fun H locs hI => ?_)
        refine lv_ior hE hB dX0_rivalsOf_32 ?_
        refine lv_istore (lv' := [(6, .int ((wset T k) ||| (rset T k))), (0, .ref o), (1, .int (nI c)), (2, .int (nI x)), (3, .int (nI w)), (4, .int acc), (5, .int (nI k))]) hE hB dX0_rivalsOf_33 hl (by decide) rfl (fun ls hl => ?_)
        refine lv_iload hE hB dX0_rivalsOf_35 (lv_at hl 5 rfl) ?_
        refine lv_iload hE hB dX0_rivalsOf_37 (lv_at hl 6 rfl) ?_
        refine lv_iload_n hE hB dX0_rivalsOf_39 rfl (lv_at hl 2 rfl) ?_
        refine n_ic_eq (tgt := 59) hE hB (by omega) (by omega) dX0_rivalsOf_40 (by decide) (fun h_40 => ?_) (fun h_40 => ?_)
        · refine lv_iconst (v := nI 0) hE hB dX0_rivalsOf_59 (by decide) ?_
          refine lv_ior hE hB dX0_rivalsOf_60 ?_
          refine lv_istore (lv' := [(4, .int (acc ||| (nI 0))), (6, .int ((wset T k) ||| (rset T k))), (0, .ref o), (1, .int (nI c)), (2, .int (nI x)), (3, .int (nI w)), (5, .int (nI k))]) hE hB dX0_rivalsOf_61 hl (by decide) rfl (fun ls hl => ?_)
          refine lv_iinc (v := (nI (k + 1))) (lv' := [(5, .int (nI (k + 1))), (4, .int (acc ||| (nI 0))), (6, .int ((wset T k) ||| (rset T k))), (0, .ref o), (1, .int (nI c)), (2, .int (nI x)), (3, .int (nI w))]) hE hB dX0_rivalsOf_63 hl (k := 6) rfl (nI_1 _) (by decide) rfl (fun ls hl => ?_)
          refine lv_goto (tgt := 6) hE hB dX0_rivalsOf_66 (by decide) ?_
          exact ih (k + 1) (acc ||| (nI 0)) H locs ls (by omega) hz (by rw [← hres]; simp [rvL, rvS, thr, h_9, h_21, h_40]) hI (lv_sub hl [3, 4, 5, 6, 1, 0] rfl)
        · refine lv_iload hE hB dX0_rivalsOf_43 (lv_at hl 0 rfl) ?_
          refine lv_iload_n hE hB dX0_rivalsOf_45 rfl (lv_at hl 3 rfl) ?_
          refine lv_ishr hE hB dX0_rivalsOf_46 ?_
          refine lv_iconst (v := nI 1) hE hB dX0_rivalsOf_47 (by decide) ?_
          refine n_bit hE hB (by omega) dX0_rivalsOf_48 ?_
          refine n_if_eq (tgt := 59) hE hB (Nat.lt_of_le_of_lt (bN_le _ _) (by decide)) dX0_rivalsOf_49 (by decide) (fun h_49 => ?_) (fun h_49 => ?_)
          · refine lv_iconst (v := nI 0) hE hB dX0_rivalsOf_59 (by decide) ?_
            refine lv_ior hE hB dX0_rivalsOf_60 ?_
            refine lv_istore (lv' := [(4, .int (acc ||| (nI 0))), (6, .int ((wset T k) ||| (rset T k))), (0, .ref o), (1, .int (nI c)), (2, .int (nI x)), (3, .int (nI w)), (5, .int (nI k))]) hE hB dX0_rivalsOf_61 hl (by decide) rfl (fun ls hl => ?_)
            refine lv_iinc (v := (nI (k + 1))) (lv' := [(5, .int (nI (k + 1))), (4, .int (acc ||| (nI 0))), (6, .int ((wset T k) ||| (rset T k))), (0, .ref o), (1, .int (nI c)), (2, .int (nI x)), (3, .int (nI w))]) hE hB dX0_rivalsOf_63 hl (k := 6) rfl (nI_1 _) (by decide) rfl (fun ls hl => ?_)
            refine lv_goto (tgt := 6) hE hB dX0_rivalsOf_66 (by decide) ?_
            exact ih (k + 1) (acc ||| (nI 0)) H locs ls (by omega) hz (by rw [← hres]; simp [rvL, rvS, thr, h_9, h_21, h_40, h_49]) hI (lv_sub hl [3, 4, 5, 6, 1, 0] rfl)
          · refine lv_iconst (v := nI 1) hE hB dX0_rivalsOf_52 (by decide) ?_
            refine lv_iload hE hB dX0_rivalsOf_53 (lv_at hl 6 rfl) ?_
            refine n_shl hE hB dX0_rivalsOf_55 ?_
            refine lv_goto (tgt := 60) hE hB dX0_rivalsOf_56 (by decide) ?_
            refine lv_ior hE hB dX0_rivalsOf_60 ?_
            refine lv_istore (lv' := [(4, .int (acc ||| (b1 k))), (6, .int ((wset T k) ||| (rset T k))), (0, .ref o), (1, .int (nI c)), (2, .int (nI x)), (3, .int (nI w)), (5, .int (nI k))]) hE hB dX0_rivalsOf_61 hl (by decide) rfl (fun ls hl => ?_)
            refine lv_iinc (v := (nI (k + 1))) (lv' := [(5, .int (nI (k + 1))), (4, .int (acc ||| (b1 k))), (6, .int ((wset T k) ||| (rset T k))), (0, .ref o), (1, .int (nI c)), (2, .int (nI x)), (3, .int (nI w))]) hE hB dX0_rivalsOf_63 hl (k := 6) rfl (nI_1 _) (by decide) rfl (fun ls hl => ?_)
            refine lv_goto (tgt := 6) hE hB dX0_rivalsOf_66 (by decide) ?_
            exact ih (k + 1) (acc ||| (b1 k)) H locs ls (by omega) hz (by rw [← hres]; simp [rvL, rvS, thr, h_9, h_21, h_40, h_49]) hI (lv_sub hl [3, 4, 5, 6, 1, 0] rfl)
set_option maxHeartbeats 4000000 in
set_option maxRecDepth 100000 in
theorem met_X0_rivalsOf {l : Launch} {D : va_G} {o : Nat} {a : Nat → Nat} {d : Nat → ClassId} {C : CS} {T : TS} {c x w : Nat} (hc : c < 4) (hx : x < 16) (hw : w < 2) (hT : WT T) : GMi l yX0_rivalsOf (ws_ yX0_rivalsOf cX0_rivalsOf 7 (some .int)) (rmD 1) D (tysX d) (wX o a d C T) [.ref o, .int (nI c), .int (nI x), .int (nI w)] (wX o a d C T) (rivs T c x w) := by
  refine GMi.of (by decide) (Nat.le_of_ble_eq_true rfl) ?_
  intro p e s m args below meth cd A ls K hr hlk hI hl
  have K : GC RX0 (tysX d) D A p s m args cd cX0_rivalsOf 7 := K
  have hl : lv_has ls 7 [(0, .ref o), (1, .int (nI c)), (2, .int (nI x)), (3, .int (nI w))] := hl
  obtain ⟨hE, hB, hml, hown, hts, hK, hA⟩ := id K
  refine lv_iconst (v := nI 0) hE hB dX0_rivalsOf_0 (by decide) ?_
  refine lv_istore (lv' := [(4, .int (nI 0)), (0, .ref o), (1, .int (nI c)), (2, .int (nI x)), (3, .int (nI w))]) hE hB dX0_rivalsOf_1 hl (by decide) rfl (fun ls hl => ?_)
  refine lv_iconst (v := nI 0) hE hB dX0_rivalsOf_3 (by decide) ?_
  refine lv_istore (lv' := [(5, .int (nI 0)), (4, .int (nI 0)), (0, .ref o), (1, .int (nI c)), (2, .int (nI x)), (3, .int (nI w))]) hE hB dX0_rivalsOf_4 hl (by decide) rfl (fun ls hl => ?_)
  exact lpX_rivalsOf K hr hlk hc hx hw hT 4 0 (nI 0) _ _ ls rfl rfl rfl hI (lv_sub hl [2, 3, 4, 5, 1, 0] rfl)
set_option maxHeartbeats 4000000 in
set_option maxRecDepth 100000 in
theorem kX0_rivalsOf {p : Program} {l : Launch} {e : Env} {R : Room} {s : State} {m : MethodId} {args : Array Value} {below : List Frame} {meth : Method} {cd : Code} {H : Heap} {locs : List Loc} {cells slots : Nat} {Q : State → Prop} {cc : ByteArray} {pc : Nat} {ls : Array Slot} {rest : List Value} {D : va_G} {A : Nat → Prop} {nL : Nat} {o : Nat} {a : Nat → Nat} {d : Nat → ClassId} {C : CS} {T : TS} (K : GC RX0 (tysX d) D A p s m args cd cc nL) (hI : GI D A s.heap (wX o a d C T) H locs) {c x w : Nat} (hc : c < 4) (hx : x < 16) (hw : w < 2) (hT : WT T) {v : Int32} (hv : rivs T c x w = v) (hls : ls.size = nL) (hR : (rmD 1).frames + 1 ≤ R.frames ∧ 8 + (7 + 11) + (rmD 1).locals ≤ R.locals) (hroom : (rest.map fun v => v.category).sum ≤ 8) (hf : cells ≤ R.cells ∧ slots ≤ R.slots) (hdg : decode cc pc = .ok (.invokevirtual 87, 3)) (kk : ∀ (H : Heap) (locs : List Loc), GI D A s.heap (wX o a d C T) H locs → W p l e R s m args below meth cd H locs cells slots Q (F0 m (pc + 3) ls (.int v :: rest))) : W p l e R s m args below meth cd H locs cells slots Q (F0 m pc ls (.int (nI w) :: .int (nI x) :: .int (nI c) :: .ref o :: rest)) := g_calli (ci := 0) (q0 := 0) (n := 3) (As := [.int (nI c), .int (nI x), .int (nI w)]) K hI (met_X0_rivalsOf hc hx hw hT) hv (lw_V q79 q81 qs0 q22 q82) (by decide +kernel) ⟨rfl, rfl⟩ rfl rfl rfl rfl rfl hls hR hroom hf hdg kk
set_option maxHeartbeats 4000000 in
set_option maxRecDepth 100000 in
theorem lpX_beforeI {p : Program} {l : Launch} {e : Env} {s : State} {m : MethodId} {args : Array Value} {below : List Frame} {meth : Method} {cd : Code} {D : va_G} {A : Nat → Prop} {o : Nat} {a : Nat → Nat} {d : Nat → ClassId} (K : GC RX0 (tysX d) D A p s m args cd cX0_before 6) (hr : meth.sig.returnType = some .int) (hlk : meth.locks = false) {wz : va_W} {r : Int32} {C : CS} {T : TS} {c x j q : Nat} {z : Int32} (hx : x < 16) (hT : WT T) (hq : q < 12) (hz : wX o a d C T = wz) (hcont : z = r → ∀ (H : Heap) (locs : List Loc) (ls : Array Slot), GI D A s.heap (wX o a d C T) H locs → lv_has ls 6 [(0, .ref o), (1, .int (nI c)), (2, .int (nI x)), (3, .int (nI j))] → W p l e (rmD 3) s m args below meth cd H locs 0 0 (MQ below (gQi D (tysX d) A wz r) args s 0 0 A) (F0 m 71 ls [])) : ∀ (n k : Nat) (H : Heap) (locs : List Loc) (ls : Array Slot), k + n = tZ T q → (bfK T q x n k).getD z = r → GI D A s.heap (wX o a d C T) H locs → lv_has ls 6 [(0, .ref o), (1, .int (nI c)), (2, .int (nI x)), (3, .int (nI j)), (4, .int (nI q)), (5, .int (nI k))] → W p l e (rmD 3) s m args below meth cd H locs 0 0 (MQ below (gQi D (tysX d) A wz r) args s 0 0 A) (F0 m 22 ls []) := by
  obtain ⟨hE, hB, hml, hown, hts, hK, hA⟩ := id K
  have hzq := hT.2.1 q hq
  intro n
  induction n with
  | zero =>
    intro k H locs ls hkn hres hI hl
    refine lv_iload hE hB dX0_before_22 (lv_at hl 5 rfl) ?_
    refine lv_aload_n hE hB dX0_before_24 rfl (lv_at hl 0 rfl) ?_
    refine xg7 hE hB hts hown hK hI dX0_before_25 ?_
    refine lv_iload hE hB dX0_before_28 (lv_at hl 4 rfl) ?_
    refine xl7 hE hB hK hI (i := q) (by omega) dX0_before_30 ?_
    refine n_ic_ge (tgt := 71) hE hB (by omega) (by omega) dX0_before_31 (by decide) (fun h_31 => ?_) (fun h_31 => ?_)
    · exact hcont hres H locs ls hI (lv_sub hl [0, 1, 2, 3] rfl)
    · omega
  | succ n ih =>
    intro k H locs ls hkn hres hI hl
    refine lv_iload hE hB dX0_before_22 (lv_at hl 5 rfl) ?_
    refine lv_aload_n hE hB dX0_before_24 rfl (lv_at hl 0 rfl) ?_
    refine xg7 hE hB hts hown hK hI dX0_before_25 ?_
    refine lv_iload hE hB dX0_before_28 (lv_at hl 4 rfl) ?_
    refine xl7 hE hB hK hI (i := q) (by omega) dX0_before_30 ?_
    refine n_ic_ge (tgt := 71) hE hB (by omega) (by omega) dX0_before_31 (by decide) (fun h_31 => ?_) (fun h_31 => ?_)
    · omega
    · refine lv_aload_n hE hB dX0_before_34 rfl (lv_at hl 0 rfl) ?_
      refine xg8 hE hB hts hown hK hI dX0_before_35 ?_
      refine lv_iload hE hB dX0_before_38 (lv_at hl 4 rfl) ?_
      refine lv_bipush (v := nI 16) hE hB dX0_before_40 (by decide) ?_
      refine n_mul hE hB dX0_before_42 ?_
      refine lv_iload hE hB dX0_before_43 (lv_at hl 5 rfl) ?_
      refine n_add hE hB dX0_before_45 ?_
      refine xl8 hE hB hK hI (i := ((q * 16) + k)) (by omega) dX0_before_46 ?_
      refine lv_iload_n hE hB dX0_before_47 rfl (lv_at hl 2 rfl) ?_
      have b48 := hT.2.2 (q * 16 + k) (by omega)
      refine n_ic_ne (tgt := 65) hE hB (by omega) (by omega) dX0_before_48 (by decide) (fun h_48 => ?_) (fun h_48 => ?_)
      · refine lv_iinc (v := (nI (k + 1))) (lv' := [(5, .int (nI (k + 1))), (0, .ref o), (1, .int (nI c)), (2, .int (nI x)), (3, .int (nI j)), (4, .int (nI q))]) hE hB dX0_before_65 hl (k := 5) rfl (nI_1 _) (by decide) rfl (fun ls hl => ?_)
        refine lv_goto (tgt := 22) hE hB dX0_before_68 (by decide) ?_
        exact ih (k + 1) H locs ls (by omega) (by rw [← hres]; simp [bfK, h_31, h_48]) hI (lv_sub hl [1, 2, 3, 4, 5, 0] rfl)
      · refine lv_aload_n hE hB dX0_before_51 rfl (lv_at hl 0 rfl) ?_
        refine xg9 hE hB hts hown hK hI dX0_before_52 ?_
        refine lv_iload hE hB dX0_before_55 (lv_at hl 4 rfl) ?_
        refine lv_bipush (v := nI 16) hE hB dX0_before_57 (by decide) ?_
        refine n_mul hE hB dX0_before_59 ?_
        refine lv_iload hE hB dX0_before_60 (lv_at hl 5 rfl) ?_
        refine n_add hE hB dX0_before_62 ?_
        refine xl9 hE hB hK hI (i := ((q * 16) + k)) (by omega) dX0_before_63 ?_
        exact g_iret K hr hlk hI hz (by rw [← hres]; simp [bfK, h_31, h_48]) dX0_before_64
set_option maxHeartbeats 4000000 in
set_option maxRecDepth 100000 in
theorem lpX_before {p : Program} {l : Launch} {e : Env} {s : State} {m : MethodId} {args : Array Value} {below : List Frame} {meth : Method} {cd : Code} {D : va_G} {A : Nat → Prop} {o : Nat} {a : Nat → Nat} {d : Nat → ClassId} (K : GC RX0 (tysX d) D A p s m args cd cX0_before 6) (hr : meth.sig.returnType = some .int) (hlk : meth.locks = false) {wz : va_W} {r : Int32} {C : CS} {T : TS} {c x : Nat} (hc : c < 4) (hx : x < 16) (hW : WC C) (hT : WT T) : ∀ (n k : Nat) (H : Heap) (locs : List Loc) (ls : Array Slot), k + n = tL T c → wX o a d C T = wz → bfL C T c x n k = r → GI D A s.heap (wX o a d C T) H locs → lv_has ls 6 [(0, .ref o), (1, .int (nI c)), (2, .int (nI x)), (3, .int (nI k))] → W p l e (rmD 3) s m args below meth cd H locs 0 0 (MQ below (gQi D (tysX d) A wz r) args s 0 0 A) (F0 m 2 ls []) := by
  obtain ⟨hE, hB, hml, hown, hts, hK, hA⟩ := id K
  have hlv := hT.1 c hc
  intro n
  induction n with
  | zero =>
    intro k H locs ls hkn hz hres hI hl
    refine lv_iload_n hE hB dX0_before_2 rfl (lv_at hl 3 rfl) ?_
    refine lv_aload_n hE hB dX0_before_3 rfl (lv_at hl 0 rfl) ?_
    refine xg4 hE hB hts hown hK hI dX0_before_4 ?_
    refine lv_iload_n hE hB dX0_before_7 rfl (lv_at hl 1 rfl) ?_
    refine xl4 hE hB hK hI (i := c) (by omega) dX0_before_8 ?_
    refine n_ic_ge (tgt := 77) hE hB (by omega) (by omega) dX0_before_9 (by decide) (fun h_9 => ?_) (fun h_9 => ?_)
    · refine lv_aload_n hE hB dX0_before_77 rfl (lv_at hl 0 rfl) ?_
      refine lv_iload_n hE hB dX0_before_78 rfl (lv_at hl 2 rfl) ?_
      refine kX0_newest K hI (by omega) hW rfl hl.1 ⟨Nat.le_of_ble_eq_true rfl, Nat.le_of_ble_eq_true rfl⟩ (Nat.le_of_ble_eq_true rfl) ⟨Nat.zero_le _, Nat.zero_le _⟩ dX0_before_79 (fun H locs hI => ?_)
      exact g_iret K hr hlk hI hz (by rw [← hres]; rfl) dX0_before_82
    · omega
  | succ n ih =>
    intro k H locs ls hkn hz hres hI hl
    refine lv_iload_n hE hB dX0_before_2 rfl (lv_at hl 3 rfl) ?_
    refine lv_aload_n hE hB dX0_before_3 rfl (lv_at hl 0 rfl) ?_
    refine xg4 hE hB hts hown hK hI dX0_before_4 ?_
    refine lv_iload_n hE hB dX0_before_7 rfl (lv_at hl 1 rfl) ?_
    refine xl4 hE hB hK hI (i := c) (by omega) dX0_before_8 ?_
    refine n_ic_ge (tgt := 77) hE hB (by omega) (by omega) dX0_before_9 (by decide) (fun h_9 => ?_) (fun h_9 => ?_)
    · omega
    · refine lv_iload_n hE hB dX0_before_12 rfl (lv_at hl 1 rfl) ?_
      refine lv_iconst (v := nI 3) hE hB dX0_before_13 (by decide) ?_
      refine n_mul hE hB dX0_before_14 ?_
      refine lv_iload_n hE hB dX0_before_15 rfl (lv_at hl 3 rfl) ?_
      refine n_add hE hB dX0_before_16 ?_
      refine lv_istore (lv' := [(4, .int (nI ((c * 3) + k))), (0, .ref o), (1, .int (nI c)), (2, .int (nI x)), (3, .int (nI k))]) hE hB dX0_before_17 hl (by decide) rfl (fun ls hl => ?_)
      refine lv_iconst (v := nI 0) hE hB dX0_before_19 (by decide) ?_
      refine lv_istore (lv' := [(5, .int (nI 0)), (4, .int (nI ((c * 3) + k))), (0, .ref o), (1, .int (nI c)), (2, .int (nI x)), (3, .int (nI k))]) hE hB dX0_before_20 hl (by decide) rfl (fun ls hl => ?_)
      refine lpX_beforeI (q := c * 3 + k) K hr hlk hx hT (by omega) hz (fun hz2 H locs ls hI hl => ?_) (tZ T (c * 3 + k)) 0 H locs ls (Nat.zero_add _) hres hI (lv_sub hl [2, 3, 4, 5, 1, 0] rfl)
      refine lv_iinc (v := (nI (k + 1))) (lv' := [(3, .int (nI (k + 1))), (0, .ref o), (1, .int (nI c)), (2, .int (nI x))]) hE hB dX0_before_71 hl (k := 3) rfl (nI_1 _) (by decide) rfl (fun ls hl => ?_)
      refine lv_goto (tgt := 2) hE hB dX0_before_74 (by decide) ?_
      exact ih (k + 1) H locs ls (by omega) hz hz2 hI (lv_sub hl [1, 2, 3, 0] rfl)
set_option maxHeartbeats 4000000 in
set_option maxRecDepth 100000 in
theorem met_X0_before {l : Launch} {D : va_G} {o : Nat} {a : Nat → Nat} {d : Nat → ClassId} {C : CS} {T : TS} {c x : Nat} (hc : c < 4) (hx : x < 16) (hW : WC C) (hT : WT T) : GMi l yX0_before (ws_ yX0_before cX0_before 6 (some .int)) (rmD 3) D (tysX d) (wX o a d C T) [.ref o, .int (nI c), .int (nI x)] (wX o a d C T) (bfre C T c x) := by
  refine GMi.of (by decide) (Nat.le_of_ble_eq_true rfl) ?_
  intro p e s m args below meth cd A ls K hr hlk hI hl
  have K : GC RX0 (tysX d) D A p s m args cd cX0_before 6 := K
  have hl : lv_has ls 6 [(0, .ref o), (1, .int (nI c)), (2, .int (nI x))] := hl
  obtain ⟨hE, hB, hml, hown, hts, hK, hA⟩ := id K
  refine lv_iconst (v := nI 0) hE hB dX0_before_0 (by decide) ?_
  refine lv_istore_n (lv' := [(3, .int (nI 0)), (0, .ref o), (1, .int (nI c)), (2, .int (nI x))]) hE hB dX0_before_1 rfl hl (by decide) rfl (fun ls hl => ?_)
  exact lpX_before K hr hlk hc hx hW hT (tL T c) 0 _ _ ls (Nat.zero_add _) rfl rfl hI (lv_sub hl [1, 2, 3, 0] rfl)
set_option maxHeartbeats 4000000 in
set_option maxRecDepth 100000 in
theorem kX0_before {p : Program} {l : Launch} {e : Env} {R : Room} {s : State} {m : MethodId} {args : Array Value} {below : List Frame} {meth : Method} {cd : Code} {H : Heap} {locs : List Loc} {cells slots : Nat} {Q : State → Prop} {cc : ByteArray} {pc : Nat} {ls : Array Slot} {rest : List Value} {D : va_G} {A : Nat → Prop} {nL : Nat} {o : Nat} {a : Nat → Nat} {d : Nat → ClassId} {C : CS} {T : TS} (K : GC RX0 (tysX d) D A p s m args cd cc nL) (hI : GI D A s.heap (wX o a d C T) H locs) {c x : Nat} (hc : c < 4) (hx : x < 16) (hW : WC C) (hT : WT T) {v : Int32} (hv : bfre C T c x = v) (hls : ls.size = nL) (hR : (rmD 3).frames + 1 ≤ R.frames ∧ 8 + (6 + 11) + (rmD 3).locals ≤ R.locals) (hroom : (rest.map fun v => v.category).sum ≤ 8) (hf : cells ≤ R.cells ∧ slots ≤ R.slots) (hdg : decode cc pc = .ok (.invokevirtual 70, 3)) (kk : ∀ (H : Heap) (locs : List Loc), GI D A s.heap (wX o a d C T) H locs → W p l e R s m args below meth cd H locs cells slots Q (F0 m (pc + 3) ls (.int v :: rest))) : W p l e R s m args below meth cd H locs cells slots Q (F0 m pc ls (.int (nI x) :: .int (nI c) :: .ref o :: rest)) := g_calli (ci := 0) (q0 := 0) (n := 2) (As := [.int (nI c), .int (nI x)]) K hI (met_X0_before hc hx hW hT) hv (lw_V q126 q128 qs10 q22 q129) (by decide +kernel) ⟨rfl, rfl⟩ rfl rfl rfl rfl rfl hls hR hroom hf hdg kk
set_option maxHeartbeats 4000000 in
set_option maxRecDepth 100000 in
theorem lpX_writerOf {p : Program} {l : Launch} {e : Env} {s : State} {m : MethodId} {args : Array Value} {below : List Frame} {meth : Method} {cd : Code} {D : va_G} {A : Nat → Prop} {o : Nat} {a : Nat → Nat} {d : Nat → ClassId} (K : GC RX0 (tysX d) D A p s m args cd cX0_writerOf 4) (hr : meth.sig.returnType = some .int) (hlk : meth.locks = false) {wz : va_W} {r : Int32} {C : CS} {T : TS} {x : Nat} (hx : x < 16) (hT : WT T) : ∀ (n k : Nat) (H : Heap) (locs : List Loc) (ls : Array Slot), k + n = 4 → wX o a d C T = wz → woI (wrt T x n k) = r → GI D A s.heap (wX o a d C T) H locs → lv_has ls 4 [(0, .ref o), (1, .int (nI x)), (2, .int (nI k))] → W p l e (rmD 1) s m args below meth cd H locs 0 0 (MQ below (gQi D (tysX d) A wz r) args s 0 0 A) (F0 m 2 ls []) := by
  obtain ⟨hE, hB, hml, hown, hts, hK, hA⟩ := id K
  intro n
  induction n with
  | zero =>
    intro k H locs ls hkn hz hres hI hl
    obtain rfl : k = 4 := by omega
    refine lv_iload_n hE hB dX0_writerOf_2 rfl (lv_at hl 2 rfl) ?_
    refine lv_iconst (v := nI 4) hE hB dX0_writerOf_3 (by decide) ?_
    refine n_ic_ge (tgt := 29) hE hB (by omega) (by omega) dX0_writerOf_4 (by decide) (fun h_4 => ?_) (fun h_4 => ?_)
    · refine lv_iconst (v := -1) hE hB dX0_writerOf_29 (by decide) ?_
      exact g_iret K hr hlk hI hz (by rw [← hres]; rfl) dX0_writerOf_30
    · exact absurd h_4 (by decide)
  | succ n ih =>
    intro k H locs ls hkn hz hres hI hl
    refine lv_iload_n hE hB dX0_writerOf_2 rfl (lv_at hl 2 rfl) ?_
    refine lv_iconst (v := nI 4) hE hB dX0_writerOf_3 (by decide) ?_
    refine n_ic_ge (tgt := 29) hE hB (by omega) (by omega) dX0_writerOf_4 (by decide) (fun h_4 => ?_) (fun h_4 => ?_)
    · omega
    · refine lv_aload_n hE hB dX0_writerOf_7 rfl (lv_at hl 0 rfl) ?_
      refine lv_iload_n hE hB dX0_writerOf_8 rfl (lv_at hl 2 rfl) ?_
      refine kX0_writtenSet K hI (by omega) hT rfl hl.1 ⟨Nat.le_of_ble_eq_true rfl, Nat.le_of_ble_eq_true rfl⟩ (Nat.le_of_ble_eq_true rfl) ⟨Nat.zero_le _, Nat.zero_le _⟩ dX0_writerOf_9 (fun H locs hI => ?_)
      refine lv_istore_n (lv' := [(3, .int (wset T k)), (0, .ref o), (1, .int (nI x)), (2, .int (nI k))]) hE hB dX0_writerOf_12 rfl hl (by decide) rfl (fun ls hl => ?_)
      refine lv_iload_n hE hB dX0_writerOf_13 rfl (lv_at hl 0 rfl) ?_
      refine lv_iload_n hE hB dX0_writerOf_14 rfl (lv_at hl 2 rfl) ?_
      refine lv_ishr hE hB dX0_writerOf_15 ?_
      refine lv_iconst (v := nI 1) hE hB dX0_writerOf_16 (by decide) ?_
      refine n_bit hE hB (by omega) dX0_writerOf_17 ?_
      refine n_if_eq (tgt := 23) hE hB (Nat.lt_of_le_of_lt (bN_le _ _) (by decide)) dX0_writerOf_18 (by decide) (fun h_18 => ?_) (fun h_18 => ?_)
      · refine lv_iinc (v := (nI (k + 1))) (lv' := [(2, .int (nI (k + 1))), (3, .int (wset T k)), (0, .ref o), (1, .int (nI x))]) hE hB dX0_writerOf_23 hl (k := 3) rfl (nI_1 _) (by decide) rfl (fun ls hl => ?_)
        refine lv_goto (tgt := 2) hE hB dX0_writerOf_26 (by decide) ?_
        exact ih (k + 1) H locs ls (by omega) hz (by rw [← hres]; simp [wrt, h_4, h_18]) hI (lv_sub hl [2, 3, 0] rfl)
      · refine lv_iload_n hE hB dX0_writerOf_21 rfl (lv_at hl 3 rfl) ?_
        exact g_iret K hr hlk hI hz (by rw [← hres]; simp [wrt, woI, h_4, h_18]) dX0_writerOf_22
set_option maxHeartbeats 4000000 in
set_option maxRecDepth 100000 in
theorem met_X0_writerOf {l : Launch} {D : va_G} {o : Nat} {a : Nat → Nat} {d : Nat → ClassId} {C : CS} {T : TS} {x : Nat} (hx : x < 16) (hT : WT T) : GMi l yX0_writerOf (ws_ yX0_writerOf cX0_writerOf 4 (some .int)) (rmD 1) D (tysX d) (wX o a d C T) [.ref o, .int (nI x)] (wX o a d C T) (woI (wrt T x 4 0)) := by
  refine GMi.of (by decide) (Nat.le_of_ble_eq_true rfl) ?_
  intro p e s m args below meth cd A ls K hr hlk hI hl
  have K : GC RX0 (tysX d) D A p s m args cd cX0_writerOf 4 := K
  have hl : lv_has ls 4 [(0, .ref o), (1, .int (nI x))] := hl
  obtain ⟨hE, hB, hml, hown, hts, hK, hA⟩ := id K
  refine lv_iconst (v := nI 0) hE hB dX0_writerOf_0 (by decide) ?_
  refine lv_istore_n (lv' := [(2, .int (nI 0)), (0, .ref o), (1, .int (nI x))]) hE hB dX0_writerOf_1 rfl hl (by decide) rfl (fun ls hl => ?_)
  exact lpX_writerOf K hr hlk hx hT 4 0 _ _ ls rfl rfl rfl hI (lv_sub hl [1, 2, 0] rfl)
set_option maxHeartbeats 4000000 in
set_option maxRecDepth 100000 in
theorem kX0_writerOf {p : Program} {l : Launch} {e : Env} {R : Room} {s : State} {m : MethodId} {args : Array Value} {below : List Frame} {meth : Method} {cd : Code} {H : Heap} {locs : List Loc} {cells slots : Nat} {Q : State → Prop} {cc : ByteArray} {pc : Nat} {ls : Array Slot} {rest : List Value} {D : va_G} {A : Nat → Prop} {nL : Nat} {o : Nat} {a : Nat → Nat} {d : Nat → ClassId} {C : CS} {T : TS} (K : GC RX0 (tysX d) D A p s m args cd cc nL) (hI : GI D A s.heap (wX o a d C T) H locs) {x : Nat} (hx : x < 16) (hT : WT T) {v : Int32} (hv : woI (wrt T x 4 0) = v) (hls : ls.size = nL) (hR : (rmD 1).frames + 1 ≤ R.frames ∧ 8 + (4 + 11) + (rmD 1).locals ≤ R.locals) (hroom : (rest.map fun v => v.category).sum ≤ 8) (hf : cells ≤ R.cells ∧ slots ≤ R.slots) (hdg : decode cc pc = .ok (.invokevirtual 67, 3)) (kk : ∀ (H : Heap) (locs : List Loc), GI D A s.heap (wX o a d C T) H locs → W p l e R s m args below meth cd H locs cells slots Q (F0 m (pc + 3) ls (.int v :: rest))) : W p l e R s m args below meth cd H locs cells slots Q (F0 m pc ls (.int (nI x) :: .ref o :: rest)) := g_calli (ci := 0) (q0 := 0) (n := 1) (As := [.int (nI x)]) K hI (met_X0_writerOf hx hT) hv (lw_V q114 q116 qs7 q22 q117) (by decide +kernel) ⟨rfl, rfl⟩ rfl rfl rfl rfl rfl hls hR hroom hf hdg kk
set_option maxHeartbeats 4000000 in
set_option maxRecDepth 100000 in
theorem met_X0_committedIn {l : Launch} {D : va_G} {o : Nat} {a : Nat → Nat} {d : Nat → ClassId} {C : CS} {T : TS} {x : Nat} (hx : x < 16) (hW : WC C) (hT : WT T) : GMi l yX0_committedIn (ws_ yX0_committedIn cX0_committedIn 3 (some .int)) (rmD 4) D (tysX d) (wX o a d C T) [.ref o, .int (nI x)] (wX o a d C T) (cmt C T x) := by
  refine GMi.of (by decide) (Nat.le_of_ble_eq_true rfl) ?_
  intro p e s m args below meth cd A ls K hr hlk hI hl
  have K : GC RX0 (tysX d) D A p s m args cd cX0_committedIn 3 := K
  have hl : lv_has ls 3 [(0, .ref o), (1, .int (nI x))] := hl
  obtain ⟨hE, hB, hml, hown, hts, hK, hA⟩ := id K
  rcases hwo : wrt T x 4 0 with _ | j
  · refine lv_aload_n hE hB dX0_committedIn_0 rfl (lv_at hl 0 rfl) ?_
    refine lv_iload_n hE hB dX0_committedIn_1 rfl (lv_at hl 1 rfl) ?_
    refine kX0_writerOf K hI (by omega) hT (v := (-1)) (by rw [hwo]; rfl) hl.1 ⟨Nat.le_of_ble_eq_true rfl, Nat.le_of_ble_eq_true rfl⟩ (Nat.le_of_ble_eq_true rfl) ⟨Nat.zero_le _, Nat.zero_le _⟩ dX0_committedIn_2 (fun H locs hI => ?_)
    refine lv_istore_n (lv' := [(2, .int (-1)), (0, .ref o), (1, .int (nI x))]) hE hB dX0_committedIn_5 rfl hl (by decide) rfl (fun ls hl => ?_)
    refine lv_iload_n hE hB dX0_committedIn_6 rfl (lv_at hl 0 rfl) ?_
    refine lv_if_ge (tgt := 18) hE hB dX0_committedIn_7 (by decide) (fun h_7 => ?_) (fun h_7 => ?_)
    · exact absurd h_7 (by decide)
    · refine lv_aload_n hE hB dX0_committedIn_10 rfl (lv_at hl 1 rfl) ?_
      refine lv_iload_n hE hB dX0_committedIn_11 rfl (lv_at hl 2 rfl) ?_
      refine kX0_newest K hI (by omega) hW rfl hl.1 ⟨Nat.le_of_ble_eq_true rfl, Nat.le_of_ble_eq_true rfl⟩ (Nat.le_of_ble_eq_true rfl) ⟨Nat.zero_le _, Nat.zero_le _⟩ dX0_committedIn_12 (fun H locs hI => ?_)
      refine lv_goto (tgt := 24) hE hB dX0_committedIn_15 (by decide) ?_
      exact g_iret K hr hlk hI rfl (by simp [cmt, cmtO, hwo]) dX0_committedIn_24
  · have hj : j < 4 := by have := wrt_lt 4 0 j hwo; omega
    refine lv_aload_n hE hB dX0_committedIn_0 rfl (lv_at hl 0 rfl) ?_
    refine lv_iload_n hE hB dX0_committedIn_1 rfl (lv_at hl 1 rfl) ?_
    refine kX0_writerOf K hI (by omega) hT (v := (nI j)) (by rw [hwo]; rfl) hl.1 ⟨Nat.le_of_ble_eq_true rfl, Nat.le_of_ble_eq_true rfl⟩ (Nat.le_of_ble_eq_true rfl) ⟨Nat.zero_le _, Nat.zero_le _⟩ dX0_committedIn_2 (fun H locs hI => ?_)
    refine lv_istore_n (lv' := [(2, .int (nI j)), (0, .ref o), (1, .int (nI x))]) hE hB dX0_committedIn_5 rfl hl (by decide) rfl (fun ls hl => ?_)
    refine lv_iload_n hE hB dX0_committedIn_6 rfl (lv_at hl 0 rfl) ?_
    refine n_ifge (tgt := 18) hE hB (by omega) dX0_committedIn_7 (by decide) ?_
    refine lv_aload_n hE hB dX0_committedIn_18 rfl (lv_at hl 1 rfl) ?_
    refine lv_iload_n hE hB dX0_committedIn_19 rfl (lv_at hl 0 rfl) ?_
    refine lv_iload_n hE hB dX0_committedIn_20 rfl (lv_at hl 2 rfl) ?_
    refine kX0_before K hI (by omega) (by omega) hW hT rfl hl.1 ⟨Nat.le_of_ble_eq_true rfl, Nat.le_of_ble_eq_true rfl⟩ (Nat.le_of_ble_eq_true rfl) ⟨Nat.zero_le _, Nat.zero_le _⟩ dX0_committedIn_21 (fun H locs hI => ?_)
    exact g_iret K hr hlk hI rfl (by simp [cmt, cmtO, hwo]) dX0_committedIn_24
set_option maxHeartbeats 4000000 in
set_option maxRecDepth 100000 in
theorem kX0_committedIn {p : Program} {l : Launch} {e : Env} {R : Room} {s : State} {m : MethodId} {args : Array Value} {below : List Frame} {meth : Method} {cd : Code} {H : Heap} {locs : List Loc} {cells slots : Nat} {Q : State → Prop} {cc : ByteArray} {pc : Nat} {ls : Array Slot} {rest : List Value} {D : va_G} {A : Nat → Prop} {nL : Nat} {o : Nat} {a : Nat → Nat} {d : Nat → ClassId} {C : CS} {T : TS} (K : GC RX0 (tysX d) D A p s m args cd cc nL) (hI : GI D A s.heap (wX o a d C T) H locs) {x : Nat} (hx : x < 16) (hW : WC C) (hT : WT T) {v : Int32} (hv : cmt C T x = v) (hls : ls.size = nL) (hR : (rmD 4).frames + 1 ≤ R.frames ∧ 8 + (3 + 11) + (rmD 4).locals ≤ R.locals) (hroom : (rest.map fun v => v.category).sum ≤ 8) (hf : cells ≤ R.cells ∧ slots ≤ R.slots) (hdg : decode cc pc = .ok (.invokevirtual 94, 3)) (kk : ∀ (H : Heap) (locs : List Loc), GI D A s.heap (wX o a d C T) H locs → W p l e R s m args below meth cd H locs cells slots Q (F0 m (pc + 3) ls (.int v :: rest))) : W p l e R s m args below meth cd H locs cells slots Q (F0 m pc ls (.int (nI x) :: .ref o :: rest)) := g_calli (ci := 0) (q0 := 0) (n := 1) (As := [.int (nI x)]) K hI (met_X0_committedIn hx hW hT) hv (lw_V q122 q124 qs9 q22 q125) (by decide +kernel) ⟨rfl, rfl⟩ rfl rfl rfl rfl rfl hls hR hroom hf hdg kk
set_option maxHeartbeats 4000000 in
set_option maxRecDepth 100000 in
theorem met_X0_noteRead {l : Launch} {D : va_G} {o : Nat} {a : Nat → Nat} {d : Nat → ClassId} {C : CS} {T : TS} {c x : Nat} (hc : c < 4) (hT : WT T) : GMv l yX0_noteRead (ws_ yX0_noteRead cX0_noteRead 3 none) (rmD 0) D (tysX d) (wX o a d C T) [.ref o, .int (nI c), .int (nI x)] (wX o a d C (ntR T c x)) := by
  refine GMv.of (by decide) (Nat.le_of_ble_eq_true rfl) ?_
  intro p e s m args below meth cd A ls K hr hlk hI hl
  have K : GC RX0 (tysX d) D A p s m args cd cX0_noteRead 3 := K
  have hl : lv_has ls 3 [(0, .ref o), (1, .int (nI c)), (2, .int (nI x))] := hl
  obtain ⟨hE, hB, hml, hown, hts, hK, hA⟩ := id K
  have hlv := hT.1 c hc
  refine lv_aload_n hE hB dX0_noteRead_0 rfl (lv_at hl 0 rfl) ?_
  refine xg4 hE hB hts hown hK hI dX0_noteRead_1 ?_
  refine lv_iload_n hE hB dX0_noteRead_4 rfl (lv_at hl 1 rfl) ?_
  refine xl4 hE hB hK hI (i := c) (by omega) dX0_noteRead_5 ?_
  refine n_if_le (tgt := 32) hE hB (by omega) dX0_noteRead_6 (by decide) (fun h_6 => ?_) (fun h_6 => ?_)
  · exact g_vret K hr hlk hI (by simp [ntR, h_6]) dX0_noteRead_32
  · refine lv_aload_n hE hB dX0_noteRead_9 rfl (lv_at hl 0 rfl) ?_
    refine xg5 hE hB hts hown hK hI dX0_noteRead_10 ?_
    refine lv_iload_n hE hB dX0_noteRead_13 rfl (lv_at hl 1 rfl) ?_
    refine lv_iconst (v := nI 3) hE hB dX0_noteRead_14 (by decide) ?_
    refine n_mul hE hB dX0_noteRead_15 ?_
    refine lv_aload_n hE hB dX0_noteRead_16 rfl (lv_at hl 0 rfl) ?_
    refine xg4 hE hB hts hown hK hI dX0_noteRead_17 ?_
    refine lv_iload_n hE hB dX0_noteRead_20 rfl (lv_at hl 1 rfl) ?_
    refine xl4 hE hB hK hI (i := c) (by omega) dX0_noteRead_21 ?_
    refine n_add hE hB dX0_noteRead_22 ?_
    refine lv_iconst (v := nI 1) hE hB dX0_noteRead_23 (by decide) ?_
    refine n_sub hE hB (by omega) dX0_noteRead_24 ?_
    refine lv_dup2_11 hE hB dX0_noteRead_25 rfl rfl ?_
    refine xl5 hE hB hK hI (i := (((c * 3) + (tL T c)) - 1)) (by omega) dX0_noteRead_26 ?_
    refine lv_iconst (v := nI 1) hE hB dX0_noteRead_27 (by decide) ?_
    refine lv_iload_n hE hB dX0_noteRead_28 rfl (lv_at hl 2 rfl) ?_
    refine n_shl hE hB dX0_noteRead_29 ?_
    refine lv_ior hE hB dX0_noteRead_30 ?_
    refine xs5 hE hB hK hI (i := (((c * 3) + (tL T c)) - 1)) (v := ((tR T (((c * 3) + (tL T c)) - 1)) ||| (b1 x))) (by omega) dX0_noteRead_31 (fun H locs hI => ?_)
    have hI : GI D A s.heap (wX o a d C (tL T, upd (tR T) (((c * 3) + (tL T c)) - 1) ((tR T (((c * 3) + (tL T c)) - 1)) ||| (b1 x)), tW T, tZ T, tC T, tO T)) H locs := hI
    exact g_vret K hr hlk hI (by simp [ntR, h_6]) dX0_noteRead_32
set_option maxHeartbeats 4000000 in
set_option maxRecDepth 100000 in
theorem kX0_noteRead {p : Program} {l : Launch} {e : Env} {R : Room} {s : State} {m : MethodId} {args : Array Value} {below : List Frame} {meth : Method} {cd : Code} {H : Heap} {locs : List Loc} {cells slots : Nat} {Q : State → Prop} {cc : ByteArray} {pc : Nat} {ls : Array Slot} {rest : List Value} {D : va_G} {A : Nat → Prop} {nL : Nat} {o : Nat} {a : Nat → Nat} {d : Nat → ClassId} {C : CS} {T : TS} (K : GC RX0 (tysX d) D A p s m args cd cc nL) (hI : GI D A s.heap (wX o a d C T) H locs) {c x : Nat} (hc : c < 4) (hT : WT T) (hls : ls.size = nL) (hR : (rmD 0).frames + 1 ≤ R.frames ∧ 8 + (3 + 11) + (rmD 0).locals ≤ R.locals) (hroom : (rest.map fun v => v.category).sum ≤ 8) (hf : cells ≤ R.cells ∧ slots ≤ R.slots) (hdg : decode cc pc = .ok (.invokevirtual 91, 3)) (kk : ∀ (H : Heap) (locs : List Loc), GI D A s.heap (wX o a d C (ntR T c x)) H locs → W p l e R s m args below meth cd H locs cells slots Q (F0 m (pc + 3) ls rest)) : W p l e R s m args below meth cd H locs cells slots Q (F0 m pc ls (.int (nI x) :: .int (nI c) :: .ref o :: rest)) := g_callv (ci := 0) (q0 := 0) (n := 2) (As := [.int (nI c), .int (nI x)]) K hI (met_X0_noteRead hc hT) (lw_V q106 q108 qs6 q22 q109) (by decide +kernel) ⟨rfl, rfl⟩ rfl rfl rfl rfl rfl hls hR hroom hf hdg kk
set_option maxHeartbeats 4000000 in
set_option maxRecDepth 100000 in
theorem met_X0_log {l : Launch} {D : va_G} {o : Nat} {a : Nat → Nat} {d : Nat → ClassId} {C : CS} {T : TS} {q x : Nat} {v : Int32} (hq : q < 12) (hx : x < 16) (hz : tZ T q < 16) : GMv l yX0_log (ws_ yX0_log cX0_log 4 none) (rmD 0) D (tysX d) (wX o a d C T) [.ref o, .int (nI q), .int (nI x), .int v] (wX o a d C (lgT T q x v)) := by
  refine GMv.of (by decide) (Nat.le_of_ble_eq_true rfl) ?_
  intro p e s m args below meth cd A ls K hr hlk hI hl
  have K : GC RX0 (tysX d) D A p s m args cd cX0_log 4 := K
  have hl : lv_has ls 4 [(0, .ref o), (1, .int (nI q)), (2, .int (nI x)), (3, .int v)] := hl
  obtain ⟨hE, hB, hml, hown, hts, hK, hA⟩ := id K
  refine lv_aload_n hE hB dX0_log_0 rfl (lv_at hl 0 rfl) ?_
  refine xg8 hE hB hts hown hK hI dX0_log_1 ?_
  refine lv_iload_n hE hB dX0_log_4 rfl (lv_at hl 1 rfl) ?_
  refine lv_bipush (v := nI 16) hE hB dX0_log_5 (by decide) ?_
  refine n_mul hE hB dX0_log_7 ?_
  refine lv_aload_n hE hB dX0_log_8 rfl (lv_at hl 0 rfl) ?_
  refine xg7 hE hB hts hown hK hI dX0_log_9 ?_
  refine lv_iload_n hE hB dX0_log_12 rfl (lv_at hl 1 rfl) ?_
  refine xl7 hE hB hK hI (i := q) (by omega) dX0_log_13 ?_
  refine n_add hE hB dX0_log_14 ?_
  refine lv_iload_n hE hB dX0_log_15 rfl (lv_at hl 2 rfl) ?_
  refine n_i2b hE hB (by omega) dX0_log_16 ?_
  refine xs8 hE hB hK hI (i := ((q * 16) + (tZ T q))) (v := x) (by omega) (by omega) dX0_log_17 (fun H locs hI => ?_)
  have hI : GI D A s.heap (wX o a d C (tL T, tR T, tW T, tZ T, upN (tC T) ((q * 16) + (tZ T q)) x, tO T)) H locs := hI
  refine lv_aload_n hE hB dX0_log_18 rfl (lv_at hl 0 rfl) ?_
  refine xg9 hE hB hts hown hK hI dX0_log_19 ?_
  refine lv_iload_n hE hB dX0_log_22 rfl (lv_at hl 1 rfl) ?_
  refine lv_bipush (v := nI 16) hE hB dX0_log_23 (by decide) ?_
  refine n_mul hE hB dX0_log_25 ?_
  refine lv_aload_n hE hB dX0_log_26 rfl (lv_at hl 0 rfl) ?_
  refine xg7 hE hB hts hown hK hI dX0_log_27 ?_
  refine lv_iload_n hE hB dX0_log_30 rfl (lv_at hl 1 rfl) ?_
  refine xl7 hE hB hK hI (i := q) (by omega) dX0_log_31 ?_
  refine n_top (y := (nI (tZ T q))) rfl ?_
  refine n_add hE hB dX0_log_32 ?_
  refine lv_iload_n hE hB dX0_log_33 rfl (lv_at hl 3 rfl) ?_
  refine xs9 hE hB hK hI (i := ((q * 16) + (tZ T q))) (v := v) (by omega) dX0_log_34 (fun H locs hI => ?_)
  have hI : GI D A s.heap (wX o a d C (tL T, tR T, tW T, tZ T, upN (tC T) ((q * 16) + (tZ T q)) x, upd (tO T) ((q * 16) + (tZ T q)) v)) H locs := hI
  refine lv_aload_n hE hB dX0_log_35 rfl (lv_at hl 0 rfl) ?_
  refine xg7 hE hB hts hown hK hI dX0_log_36 ?_
  refine lv_iload_n hE hB dX0_log_39 rfl (lv_at hl 1 rfl) ?_
  refine lv_dup2_11 hE hB dX0_log_40 rfl rfl ?_
  refine xl7 hE hB hK hI (i := q) (by omega) dX0_log_41 ?_
  refine n_top (y := (nI (tZ T q))) rfl ?_
  refine lv_iconst (v := nI 1) hE hB dX0_log_42 (by decide) ?_
  refine n_add hE hB dX0_log_43 ?_
  refine n_i2b hE hB (by omega) dX0_log_44 ?_
  refine xs7 hE hB hK hI (i := q) (v := ((tZ T q) + 1)) (by omega) (by omega) dX0_log_45 (fun H locs hI => ?_)
  have hI : GI D A s.heap (wX o a d C (tL T, tR T, tW T, upN (tZ T) q ((tZ T q) + 1), upN (tC T) ((q * 16) + (tZ T q)) x, upd (tO T) ((q * 16) + (tZ T q)) v)) H locs := hI
  refine lv_aload_n hE hB dX0_log_46 rfl (lv_at hl 0 rfl) ?_
  refine xg6 hE hB hts hown hK hI dX0_log_47 ?_
  refine lv_iload_n hE hB dX0_log_50 rfl (lv_at hl 1 rfl) ?_
  refine lv_dup2_11 hE hB dX0_log_51 rfl rfl ?_
  refine xl6 hE hB hK hI (i := q) (by omega) dX0_log_52 ?_
  refine n_top (y := (tW T q)) rfl ?_
  refine lv_iconst (v := nI 1) hE hB dX0_log_53 (by decide) ?_
  refine lv_iload_n hE hB dX0_log_54 rfl (lv_at hl 2 rfl) ?_
  refine n_shl hE hB dX0_log_55 ?_
  refine lv_ior hE hB dX0_log_56 ?_
  refine xs6 hE hB hK hI (i := q) (v := ((tW T q) ||| (b1 x))) (by omega) dX0_log_57 (fun H locs hI => ?_)
  have hI : GI D A s.heap (wX o a d C (tL T, tR T, upd (tW T) q ((tW T q) ||| (b1 x)), upN (tZ T) q ((tZ T q) + 1), upN (tC T) ((q * 16) + (tZ T q)) x, upd (tO T) ((q * 16) + (tZ T q)) v)) H locs := hI
  exact g_vret K hr hlk hI rfl dX0_log_58
set_option maxHeartbeats 4000000 in
set_option maxRecDepth 100000 in
theorem kX0_log {p : Program} {l : Launch} {e : Env} {R : Room} {s : State} {m : MethodId} {args : Array Value} {below : List Frame} {meth : Method} {cd : Code} {H : Heap} {locs : List Loc} {cells slots : Nat} {Q : State → Prop} {cc : ByteArray} {pc : Nat} {ls : Array Slot} {rest : List Value} {D : va_G} {A : Nat → Prop} {nL : Nat} {o : Nat} {a : Nat → Nat} {d : Nat → ClassId} {C : CS} {T : TS} (K : GC RX0 (tysX d) D A p s m args cd cc nL) (hI : GI D A s.heap (wX o a d C T) H locs) {q x : Nat} {v : Int32} (hq : q < 12) (hx : x < 16) (hz : tZ T q < 16) (hls : ls.size = nL) (hR : (rmD 0).frames + 1 ≤ R.frames ∧ 8 + (4 + 11) + (rmD 0).locals ≤ R.locals) (hroom : (rest.map fun v => v.category).sum ≤ 8) (hf : cells ≤ R.cells ∧ slots ≤ R.slots) (hdg : decode cc pc = .ok (.invokevirtual 73, 3)) (kk : ∀ (H : Heap) (locs : List Loc), GI D A s.heap (wX o a d C (lgT T q x v)) H locs → W p l e R s m args below meth cd H locs cells slots Q (F0 m (pc + 3) ls rest)) : W p l e R s m args below meth cd H locs cells slots Q (F0 m pc ls (.int v :: .int (nI x) :: .int (nI q) :: .ref o :: rest)) := g_callv (ci := 0) (q0 := 0) (n := 3) (As := [.int (nI q), .int (nI x), .int v]) K hI (met_X0_log hq hx hz) (lw_V q138 q140 qs12 q22 q141) (by decide +kernel) ⟨rfl, rfl⟩ rfl rfl rfl rfl rfl hls hR hroom hf hdg kk
set_option maxHeartbeats 4000000 in
set_option maxRecDepth 100000 in
theorem met_X0_change {l : Launch} {D : va_G} {o : Nat} {a : Nat → Nat} {d : Nat → ClassId} {C : CS} {T : TS} {c x : Nat} {v : Int32} (hc : c < 4) (hx : x < 16) (hW : WC C) (hT : WT T) (hz : tL T c ≠ 0 → bN (tW T (c * 3 + tL T c - 1)) x = 0 → tZ T (c * 3 + tL T c - 1) < 16) : GMv l yX0_change (ws_ yX0_change cX0_change 6 none) (rmD 4) D (tysX d) (wX o a d C T) [.ref o, .int (nI c), .int (nI x), .int v] (wX o a d (stor C c x v) (chT C T c x)) := by
  refine GMv.of (by decide) (Nat.le_of_ble_eq_true rfl) ?_
  intro p e s m args below meth cd A ls K hr hlk hI hl
  have K : GC RX0 (tysX d) D A p s m args cd cX0_change 6 := K
  have hl : lv_has ls 6 [(0, .ref o), (1, .int (nI c)), (2, .int (nI x)), (3, .int v)] := hl
  obtain ⟨hE, hB, hml, hown, hts, hK, hA⟩ := id K
  have hlv := hT.1 c hc
  refine lv_aload_n hE hB dX0_change_0 rfl (lv_at hl 0 rfl) ?_
  refine xg4 hE hB hts hown hK hI dX0_change_1 ?_
  refine lv_iload_n hE hB dX0_change_4 rfl (lv_at hl 1 rfl) ?_
  refine xl4 hE hB hK hI (i := c) (by omega) dX0_change_5 ?_
  refine n_if_le (tgt := 53) hE hB (by omega) dX0_change_6 (by decide) (fun h_6 => ?_) (fun h_6 => ?_)
  · refine lv_aload_n hE hB dX0_change_53 rfl (lv_at hl 0 rfl) ?_
    refine lv_iload_n hE hB dX0_change_54 rfl (lv_at hl 1 rfl) ?_
    refine lv_iload_n hE hB dX0_change_55 rfl (lv_at hl 2 rfl) ?_
    refine lv_iload_n hE hB dX0_change_56 rfl (lv_at hl 3 rfl) ?_
    refine kX0_store K hI (by omega) (by omega) hW hl.1 ⟨Nat.le_of_ble_eq_true rfl, Nat.le_of_ble_eq_true rfl⟩ (Nat.le_of_ble_eq_true rfl) ⟨Nat.zero_le _, Nat.zero_le _⟩ dX0_change_57 (fun H locs hI => ?_)
    exact g_vret K hr hlk hI (by simp [chT, h_6]) dX0_change_60
  · refine lv_iload_n hE hB dX0_change_9 rfl (lv_at hl 1 rfl) ?_
    refine lv_iconst (v := nI 3) hE hB dX0_change_10 (by decide) ?_
    refine n_mul hE hB dX0_change_11 ?_
    refine lv_aload_n hE hB dX0_change_12 rfl (lv_at hl 0 rfl) ?_
    refine xg4 hE hB hts hown hK hI dX0_change_13 ?_
    refine lv_iload_n hE hB dX0_change_16 rfl (lv_at hl 1 rfl) ?_
    refine xl4 hE hB hK hI (i := c) (by omega) dX0_change_17 ?_
    refine n_add hE hB dX0_change_18 ?_
    refine lv_iconst (v := nI 1) hE hB dX0_change_19 (by decide) ?_
    refine n_sub hE hB (by omega) dX0_change_20 ?_
    refine lv_istore (lv' := [(4, .int (nI (((c * 3) + (tL T c)) - 1))), (0, .ref o), (1, .int (nI c)), (2, .int (nI x)), (3, .int v)]) hE hB dX0_change_21 hl (by decide) rfl (fun ls hl => ?_)
    refine lv_aload_n hE hB dX0_change_23 rfl (lv_at hl 1 rfl) ?_
    refine xg6 hE hB hts hown hK hI dX0_change_24 ?_
    refine lv_iload hE hB dX0_change_27 (lv_at hl 0 rfl) ?_
    refine xl6 hE hB hK hI (i := (((c * 3) + (tL T c)) - 1)) (by omega) dX0_change_29 ?_
    refine lv_iload_n hE hB dX0_change_30 rfl (lv_at hl 3 rfl) ?_
    refine lv_ishr hE hB dX0_change_31 ?_
    refine lv_iconst (v := nI 1) hE hB dX0_change_32 (by decide) ?_
    refine n_bit hE hB (by omega) dX0_change_33 ?_
    refine n_if_ne (tgt := 53) hE hB (Nat.lt_of_le_of_lt (bN_le _ _) (by decide)) dX0_change_34 (by decide) (fun h_34 => ?_) (fun h_34 => ?_)
    · refine lv_aload_n hE hB dX0_change_53 rfl (lv_at hl 1 rfl) ?_
      refine lv_iload_n hE hB dX0_change_54 rfl (lv_at hl 2 rfl) ?_
      refine lv_iload_n hE hB dX0_change_55 rfl (lv_at hl 3 rfl) ?_
      refine lv_iload_n hE hB dX0_change_56 rfl (lv_at hl 4 rfl) ?_
      refine kX0_store K hI (by omega) (by omega) hW hl.1 ⟨Nat.le_of_ble_eq_true rfl, Nat.le_of_ble_eq_true rfl⟩ (Nat.le_of_ble_eq_true rfl) ⟨Nat.zero_le _, Nat.zero_le _⟩ dX0_change_57 (fun H locs hI => ?_)
      exact g_vret K hr hlk hI (by simp [chT, h_6, h_34]) dX0_change_60
    · refine lv_aload_n hE hB dX0_change_37 rfl (lv_at hl 1 rfl) ?_
      refine lv_iload_n hE hB dX0_change_38 rfl (lv_at hl 3 rfl) ?_
      refine kX0_newest K hI (by omega) hW rfl hl.1 ⟨Nat.le_of_ble_eq_true rfl, Nat.le_of_ble_eq_true rfl⟩ (Nat.le_of_ble_eq_true rfl) ⟨Nat.zero_le _, Nat.zero_le _⟩ dX0_change_39 (fun H locs hI => ?_)
      refine lv_istore (lv' := [(5, .int (nwst C x)), (4, .int (nI (((c * 3) + (tL T c)) - 1))), (0, .ref o), (1, .int (nI c)), (2, .int (nI x)), (3, .int v)]) hE hB dX0_change_42 hl (by decide) rfl (fun ls hl => ?_)
      refine lv_aload_n hE hB dX0_change_44 rfl (lv_at hl 2 rfl) ?_
      refine lv_iload hE hB dX0_change_45 (lv_at hl 1 rfl) ?_
      refine lv_iload_n hE hB dX0_change_47 rfl (lv_at hl 4 rfl) ?_
      refine lv_iload hE hB dX0_change_48 (lv_at hl 0 rfl) ?_
      refine kX0_log K hI (by omega) hx (hz h_6 h_34) hl.1 ⟨Nat.le_of_ble_eq_true rfl, Nat.le_of_ble_eq_true rfl⟩ (Nat.le_of_ble_eq_true rfl) ⟨Nat.zero_le _, Nat.zero_le _⟩ dX0_change_50 (fun H locs hI => ?_)
      refine lv_aload_n hE hB dX0_change_53 rfl (lv_at hl 2 rfl) ?_
      refine lv_iload_n hE hB dX0_change_54 rfl (lv_at hl 3 rfl) ?_
      refine lv_iload_n hE hB dX0_change_55 rfl (lv_at hl 4 rfl) ?_
      refine lv_iload_n hE hB dX0_change_56 rfl (lv_at hl 5 rfl) ?_
      refine kX0_store K hI (by omega) (by omega) hW hl.1 ⟨Nat.le_of_ble_eq_true rfl, Nat.le_of_ble_eq_true rfl⟩ (Nat.le_of_ble_eq_true rfl) ⟨Nat.zero_le _, Nat.zero_le _⟩ dX0_change_57 (fun H locs hI => ?_)
      exact g_vret K hr hlk hI (by simp [chT, h_6, h_34]) dX0_change_60
set_option maxHeartbeats 4000000 in
set_option maxRecDepth 100000 in
theorem kX0_change {p : Program} {l : Launch} {e : Env} {R : Room} {s : State} {m : MethodId} {args : Array Value} {below : List Frame} {meth : Method} {cd : Code} {H : Heap} {locs : List Loc} {cells slots : Nat} {Q : State → Prop} {cc : ByteArray} {pc : Nat} {ls : Array Slot} {rest : List Value} {D : va_G} {A : Nat → Prop} {nL : Nat} {o : Nat} {a : Nat → Nat} {d : Nat → ClassId} {C : CS} {T : TS} (K : GC RX0 (tysX d) D A p s m args cd cc nL) (hI : GI D A s.heap (wX o a d C T) H locs) {c x : Nat} {v : Int32} (hc : c < 4) (hx : x < 16) (hW : WC C) (hT : WT T) (hz : tL T c ≠ 0 → bN (tW T (c * 3 + tL T c - 1)) x = 0 → tZ T (c * 3 + tL T c - 1) < 16) (hls : ls.size = nL) (hR : (rmD 4).frames + 1 ≤ R.frames ∧ 8 + (6 + 11) + (rmD 4).locals ≤ R.locals) (hroom : (rest.map fun v => v.category).sum ≤ 8) (hf : cells ≤ R.cells ∧ slots ≤ R.slots) (hdg : decode cc pc = .ok (.invokevirtual 97, 3)) (kk : ∀ (H : Heap) (locs : List Loc), GI D A s.heap (wX o a d (stor C c x v) (chT C T c x)) H locs → W p l e R s m args below meth cd H locs cells slots Q (F0 m (pc + 3) ls rest)) : W p l e R s m args below meth cd H locs cells slots Q (F0 m pc ls (.int v :: .int (nI x) :: .int (nI c) :: .ref o :: rest)) := g_callv (ci := 0) (q0 := 0) (n := 3) (As := [.int (nI c), .int (nI x), .int v]) K hI (met_X0_change hc hx hW hT hz) (lw_V q134 q136 qs11 q22 q137) (by decide +kernel) ⟨rfl, rfl⟩ rfl rfl rfl rfl rfl hls hR hroom hf hdg kk
set_option maxHeartbeats 4000000 in
set_option maxRecDepth 100000 in
theorem lpX_undo {p : Program} {l : Launch} {e : Env} {s : State} {m : MethodId} {args : Array Value} {below : List Frame} {meth : Method} {cd : Code} {D : va_G} {A : Nat → Prop} {o : Nat} {a : Nat → Nat} {d : Nat → ClassId} (K : GC RX0 (tysX d) D A p s m args cd cX0_undo 4) (hr : meth.sig.returnType = none) (hlk : meth.locks = false) {wz : va_W} {T : TS} {c q : Nat} (hc : c < 4) (hq : q < 12) (hT : WT T) (h0 : tL T c ≠ 0) : ∀ (n : Nat) (C : CS) (v : Int32) (H : Heap) (locs : List Loc) (ls : Array Slot), n ≤ tZ T q → WC C → v = nI n - nI 1 → wX o a d (udL T c q n C) (udT T c) = wz → GI D A s.heap (wX o a d C T) H locs → lv_has ls 4 [(0, .ref o), (1, .int (nI c)), (2, .int (nI q)), (3, .int v)] → W p l e (rmD 4) s m args below meth cd H locs 0 0 (MQ below (gQv D (tysX d) A wz) args s 0 0 A) (F0 m 22 ls []) := by
  obtain ⟨hE, hB, hml, hown, hts, hK, hA⟩ := id K
  have hlv := hT.1 c hc
  have hzq := hT.2.1 q hq
  intro n
  induction n with
  | zero =>
    intro C v H locs ls hn hW hv hz hI hl
    refine lv_iload_n hE hB dX0_undo_22 rfl (lv_at hl 3 rfl) ?_
    refine lv_if_lt (tgt := 59) hE hB dX0_undo_23 (by decide) (fun h_23 => ?_) (fun h_23 => ?_)
    · refine lv_aload_n hE hB dX0_undo_59 rfl (lv_at hl 0 rfl) ?_
      refine xg4 hE hB hts hown hK hI dX0_undo_60 ?_
      refine lv_iload_n hE hB dX0_undo_63 rfl (lv_at hl 1 rfl) ?_
      refine lv_dup2_11 hE hB dX0_undo_64 rfl rfl ?_
      refine xl4 hE hB hK hI (i := c) (by omega) dX0_undo_65 ?_
      refine lv_iconst (v := nI 1) hE hB dX0_undo_66 (by decide) ?_
      refine n_sub hE hB (by omega) dX0_undo_67 ?_
      refine n_i2b hE hB (by omega) dX0_undo_68 ?_
      refine xs4 hE hB hK hI (i := c) (v := ((tL T c) - 1)) (by omega) (by omega) dX0_undo_69 (fun H locs hI => ?_)
      have hI : GI D A s.heap (wX o a d C (upN (tL T) c ((tL T c) - 1), tR T, tW T, tZ T, tC T, tO T)) H locs := hI
      exact g_vret K hr hlk hI (by rw [← hz]; rfl) dX0_undo_70
    · exact absurd (by rw [hv]; decide) h_23
  | succ n ih =>
    intro C v H locs ls hn hW hv hz hI hl
    obtain rfl : v = nI n := by rw [hv, pk_sub (by omega)]; rfl
    refine lv_iload_n hE hB dX0_undo_22 rfl (lv_at hl 3 rfl) ?_
    refine n_iflt (tgt := 59) hE hB (by omega) dX0_undo_23 (by decide) ?_
    refine lv_aload_n hE hB dX0_undo_26 rfl (lv_at hl 0 rfl) ?_
    refine lv_iload_n hE hB dX0_undo_27 rfl (lv_at hl 1 rfl) ?_
    refine lv_aload_n hE hB dX0_undo_28 rfl (lv_at hl 0 rfl) ?_
    refine xg8 hE hB hts hown hK hI dX0_undo_29 ?_
    refine lv_iload_n hE hB dX0_undo_32 rfl (lv_at hl 2 rfl) ?_
    refine lv_bipush (v := nI 16) hE hB dX0_undo_33 (by decide) ?_
    refine n_mul hE hB dX0_undo_35 ?_
    refine lv_iload_n hE hB dX0_undo_36 rfl (lv_at hl 3 rfl) ?_
    refine n_add hE hB dX0_undo_37 ?_
    refine xl8 hE hB hK hI (i := ((q * 16) + n)) (by omega) dX0_undo_38 ?_
    refine lv_aload_n hE hB dX0_undo_39 rfl (lv_at hl 0 rfl) ?_
    refine xg9 hE hB hts hown hK hI dX0_undo_40 ?_
    refine lv_iload_n hE hB dX0_undo_43 rfl (lv_at hl 2 rfl) ?_
    refine lv_bipush (v := nI 16) hE hB dX0_undo_44 (by decide) ?_
    refine n_mul hE hB dX0_undo_46 ?_
    refine lv_iload_n hE hB dX0_undo_47 rfl (lv_at hl 3 rfl) ?_
    refine n_add hE hB dX0_undo_48 ?_
    refine xl9 hE hB hK hI (i := ((q * 16) + n)) (by omega) dX0_undo_49 ?_
    refine kX0_store K hI hc (hT.2.2 _ (by omega)) hW hl.1 ⟨Nat.le_of_ble_eq_true rfl, Nat.le_of_ble_eq_true rfl⟩ (Nat.le_of_ble_eq_true rfl) ⟨Nat.zero_le _, Nat.zero_le _⟩ dX0_undo_50 (fun H locs hI => ?_)
    refine lv_iinc (v := (nI n - nI 1)) (lv' := [(3, .int (nI n - nI 1)), (0, .ref o), (1, .int (nI c)), (2, .int (nI q))]) hE hB dX0_undo_53 hl (k := 3) rfl (n_m1 n) (by decide) rfl (fun ls hl => ?_)
    refine lv_goto (tgt := 22) hE hB dX0_undo_56 (by decide) ?_
    exact ih (stor C c (tC T (q * 16 + n)) (tO T (q * 16 + n))) (nI n - nI 1) H locs ls (by omega) (WC_stor hW _ (hT.2.2 _ (by omega)) _) rfl hz hI (lv_sub hl [1, 2, 3, 0] rfl)
set_option maxHeartbeats 4000000 in
set_option maxRecDepth 100000 in
theorem met_X0_undo {l : Launch} {D : va_G} {o : Nat} {a : Nat → Nat} {d : Nat → ClassId} {C : CS} {T : TS} {c : Nat} (hc : c < 4) (hW : WC C) (hT : WT T) (h0 : tL T c ≠ 0) : GMv l yX0_undo (ws_ yX0_undo cX0_undo 4 none) (rmD 4) D (tysX d) (wX o a d C T) [.ref o, .int (nI c)] (wX o a d (udC C T c) (udT T c)) := by
  refine GMv.of (by decide) (Nat.le_of_ble_eq_true rfl) ?_
  intro p e s m args below meth cd A ls K hr hlk hI hl
  have K : GC RX0 (tysX d) D A p s m args cd cX0_undo 4 := K
  have hl : lv_has ls 4 [(0, .ref o), (1, .int (nI c))] := hl
  obtain ⟨hE, hB, hml, hown, hts, hK, hA⟩ := id K
  have hlv := hT.1 c hc
  refine lv_iload_n hE hB dX0_undo_0 rfl (lv_at hl 1 rfl) ?_
  refine lv_iconst (v := nI 3) hE hB dX0_undo_1 (by decide) ?_
  refine n_mul hE hB dX0_undo_2 ?_
  refine lv_aload_n hE hB dX0_undo_3 rfl (lv_at hl 0 rfl) ?_
  refine xg4 hE hB hts hown hK hI dX0_undo_4 ?_
  refine lv_iload_n hE hB dX0_undo_7 rfl (lv_at hl 1 rfl) ?_
  refine xl4 hE hB hK hI (i := c) (by omega) dX0_undo_8 ?_
  refine n_add hE hB dX0_undo_9 ?_
  refine lv_iconst (v := nI 1) hE hB dX0_undo_10 (by decide) ?_
  refine n_sub hE hB (by omega) dX0_undo_11 ?_
  refine lv_istore_n (lv' := [(2, .int (nI (((c * 3) + (tL T c)) - 1))), (0, .ref o), (1, .int (nI c))]) hE hB dX0_undo_12 rfl hl (by decide) rfl (fun ls hl => ?_)
  refine lv_aload_n hE hB dX0_undo_13 rfl (lv_at hl 1 rfl) ?_
  refine xg7 hE hB hts hown hK hI dX0_undo_14 ?_
  refine lv_iload_n hE hB dX0_undo_17 rfl (lv_at hl 0 rfl) ?_
  refine xl7 hE hB hK hI (i := (((c * 3) + (tL T c)) - 1)) (by omega) dX0_undo_18 ?_
  refine lv_iconst (v := nI 1) hE hB dX0_undo_19 (by decide) ?_
  refine lv_isub hE hB dX0_undo_20 ?_
  refine lv_istore_n (lv' := [(3, .int ((nI (tZ T (((c * 3) + (tL T c)) - 1))) - (nI 1))), (2, .int (nI (((c * 3) + (tL T c)) - 1))), (0, .ref o), (1, .int (nI c))]) hE hB dX0_undo_21 rfl hl (by decide) rfl (fun ls hl => ?_)
  exact lpX_undo K hr hlk hc (by omega) hT h0 _ C _ _ _ ls (Nat.le_refl _) hW rfl rfl hI (lv_sub hl [2, 3, 1, 0] rfl)
set_option maxHeartbeats 4000000 in
set_option maxRecDepth 100000 in
theorem kX0_undo {p : Program} {l : Launch} {e : Env} {R : Room} {s : State} {m : MethodId} {args : Array Value} {below : List Frame} {meth : Method} {cd : Code} {H : Heap} {locs : List Loc} {cells slots : Nat} {Q : State → Prop} {cc : ByteArray} {pc : Nat} {ls : Array Slot} {rest : List Value} {D : va_G} {A : Nat → Prop} {nL : Nat} {o : Nat} {a : Nat → Nat} {d : Nat → ClassId} {C : CS} {T : TS} (K : GC RX0 (tysX d) D A p s m args cd cc nL) (hI : GI D A s.heap (wX o a d C T) H locs) {c : Nat} (hc : c < 4) (hW : WC C) (hT : WT T) (h0 : tL T c ≠ 0) (hls : ls.size = nL) (hR : (rmD 4).frames + 1 ≤ R.frames ∧ 8 + (4 + 11) + (rmD 4).locals ≤ R.locals) (hroom : (rest.map fun v => v.category).sum ≤ 8) (hf : cells ≤ R.cells ∧ slots ≤ R.slots) (hdg : decode cc pc = .ok (.invokevirtual 100, 3)) (kk : ∀ (H : Heap) (locs : List Loc), GI D A s.heap (wX o a d (udC C T c) (udT T c)) H locs → W p l e R s m args below meth cd H locs cells slots Q (F0 m (pc + 3) ls rest)) : W p l e R s m args below meth cd H locs cells slots Q (F0 m pc ls (.int (nI c) :: .ref o :: rest)) := g_callv (ci := 0) (q0 := 0) (n := 1) (As := [.int (nI c)]) K hI (met_X0_undo hc hW hT h0) (lw_V q158 q160 qs14 q22 q161) (by decide +kernel) ⟨rfl, rfl⟩ rfl rfl rfl rfl rfl hls hR hroom hf hdg kk
end
section
/-! contracts: the public methods -/
set_option maxHeartbeats 4000000 in
set_option maxRecDepth 100000 in
theorem met_X0_begin_bad {l : Launch} {D : va_G} {o : Nat} {a : Nat → Nat} {d : Nat → ClassId} {C : CS} {T : TS} {c : Int32} (h : isI c 4 = 0) : GMi l yX0_begin (ws_ yX0_begin cX0_begin 3 (some .int)) (rmD 1) D (tysX d) (wX o a d C T) [.ref o, .int c] (wX o a d C T) (-1) := by
  refine GMi.of (by decide) (Nat.le_of_ble_eq_true rfl) ?_
  intro p e s m args below meth cd A ls K hr hlk hI hl
  have K : GC RX0 (tysX d) D A p s m args cd cX0_begin 3 := K
  have hl : lv_has ls 3 [(0, .ref o), (1, .int c)] := hl
  obtain ⟨hE, hB, hml, hown, hts, hK, hA⟩ := id K
  have i1 := isI_le c 4
  refine lv_iload_n hE hB dX0_begin_0 rfl (lv_at hl 1 rfl) ?_
  refine kX0_isCore K hI  rfl hl.1 ⟨Nat.le_of_ble_eq_true rfl, Nat.le_of_ble_eq_true rfl⟩ (Nat.le_of_ble_eq_true rfl) ⟨Nat.zero_le _, Nat.zero_le _⟩ dX0_begin_1 (fun H locs hI => ?_)
  refine n_if_eq (tgt := 17) hE hB (by omega) dX0_begin_4 (by decide) (fun h_4 => ?_) (fun h_4 => ?_)
  · refine lv_iconst (v := -1) hE hB dX0_begin_17 (by decide) ?_
    exact g_iret K hr hlk hI rfl rfl dX0_begin_18
  · omega
set_option maxHeartbeats 4000000 in
set_option maxRecDepth 100000 in
theorem met_X0_read_bad {l : Launch} {D : va_G} {o : Nat} {a : Nat → Nat} {d : Nat → ClassId} {C : CS} {T : TS} {c x : Int32} (h : isI c 4 = 0 ∨ isI x 16 = 0) : GMi l yX0_read (ws_ yX0_read cX0_read 3 (some .int)) (rmD 3) D (tysX d) (wX o a d C T) [.ref o, .int c, .int x] (wX o a d C T) (-1) := by
  refine GMi.of (by decide) (Nat.le_of_ble_eq_true rfl) ?_
  intro p e s m args below meth cd A ls K hr hlk hI hl
  have K : GC RX0 (tysX d) D A p s m args cd cX0_read 3 := K
  have hl : lv_has ls 3 [(0, .ref o), (1, .int c), (2, .int x)] := hl
  obtain ⟨hE, hB, hml, hown, hts, hK, hA⟩ := id K
  have i1 := isI_le c 4
  have i2 := isI_le x 16
  refine lv_iload_n hE hB dX0_read_0 rfl (lv_at hl 1 rfl) ?_
  refine kX0_isCore K hI  rfl hl.1 ⟨Nat.le_of_ble_eq_true rfl, Nat.le_of_ble_eq_true rfl⟩ (Nat.le_of_ble_eq_true rfl) ⟨Nat.zero_le _, Nat.zero_le _⟩ dX0_read_1 (fun H locs hI => ?_)
  refine n_if_eq (tgt := 14) hE hB (by omega) dX0_read_4 (by decide) (fun h_4 => ?_) (fun h_4 => ?_)
  · refine lv_iconst (v := -1) hE hB dX0_read_14 (by decide) ?_
    exact g_iret K hr hlk hI rfl rfl dX0_read_15
  · refine lv_iload_n hE hB dX0_read_7 rfl (lv_at hl 2 rfl) ?_
    refine kX0_isCell K hI  rfl hl.1 ⟨Nat.le_of_ble_eq_true rfl, Nat.le_of_ble_eq_true rfl⟩ (Nat.le_of_ble_eq_true rfl) ⟨Nat.zero_le _, Nat.zero_le _⟩ dX0_read_8 (fun H locs hI => ?_)
    refine n_if_ne (tgt := 16) hE hB (by omega) dX0_read_11 (by decide) (fun h_11 => ?_) (fun h_11 => ?_)
    · omega
    · refine lv_iconst (v := -1) hE hB dX0_read_14 (by decide) ?_
      exact g_iret K hr hlk hI rfl rfl dX0_read_15
set_option maxHeartbeats 4000000 in
set_option maxRecDepth 100000 in
theorem met_X0_sees_bad {l : Launch} {D : va_G} {o : Nat} {a : Nat → Nat} {d : Nat → ClassId} {C : CS} {T : TS} {c x : Int32} (h : isI c 4 = 0 ∨ isI x 16 = 0) : GMi l yX0_sees (ws_ yX0_sees cX0_sees 3 (some .int)) (rmD 5) D (tysX d) (wX o a d C T) [.ref o, .int c, .int x] (wX o a d C T) (nI 0) := by
  refine GMi.of (by decide) (Nat.le_of_ble_eq_true rfl) ?_
  intro p e s m args below meth cd A ls K hr hlk hI hl
  have K : GC RX0 (tysX d) D A p s m args cd cX0_sees 3 := K
  have hl : lv_has ls 3 [(0, .ref o), (1, .int c), (2, .int x)] := hl
  obtain ⟨hE, hB, hml, hown, hts, hK, hA⟩ := id K
  have i1 := isI_le c 4
  have i2 := isI_le x 16
  refine lv_iload_n hE hB dX0_sees_0 rfl (lv_at hl 1 rfl) ?_
  refine kX0_isCore K hI  rfl hl.1 ⟨Nat.le_of_ble_eq_true rfl, Nat.le_of_ble_eq_true rfl⟩ (Nat.le_of_ble_eq_true rfl) ⟨Nat.zero_le _, Nat.zero_le _⟩ dX0_sees_1 (fun H locs hI => ?_)
  refine n_if_eq (tgt := 14) hE hB (by omega) dX0_sees_4 (by decide) (fun h_4 => ?_) (fun h_4 => ?_)
  · refine lv_iconst (v := nI 0) hE hB dX0_sees_14 (by decide) ?_
    exact g_iret K hr hlk hI rfl rfl dX0_sees_15
  · refine lv_iload_n hE hB dX0_sees_7 rfl (lv_at hl 2 rfl) ?_
    refine kX0_isCell K hI  rfl hl.1 ⟨Nat.le_of_ble_eq_true rfl, Nat.le_of_ble_eq_true rfl⟩ (Nat.le_of_ble_eq_true rfl) ⟨Nat.zero_le _, Nat.zero_le _⟩ dX0_sees_8 (fun H locs hI => ?_)
    refine n_if_ne (tgt := 16) hE hB (by omega) dX0_sees_11 (by decide) (fun h_11 => ?_) (fun h_11 => ?_)
    · omega
    · refine lv_iconst (v := nI 0) hE hB dX0_sees_14 (by decide) ?_
      exact g_iret K hr hlk hI rfl rfl dX0_sees_15
set_option maxHeartbeats 4000000 in
set_option maxRecDepth 100000 in
theorem met_X0_write_bad {l : Launch} {D : va_G} {o : Nat} {a : Nat → Nat} {d : Nat → ClassId} {C : CS} {T : TS} {c x v : Int32} (h : isI c 4 = 0 ∨ isI x 16 = 0) : GMi l yX0_write (ws_ yX0_write cX0_write 4 (some .int)) (rmD 5) D (tysX d) (wX o a d C T) [.ref o, .int c, .int x, .int v] (wX o a d C T) (-1) := by
  refine GMi.of (by decide) (Nat.le_of_ble_eq_true rfl) ?_
  intro p e s m args below meth cd A ls K hr hlk hI hl
  have K : GC RX0 (tysX d) D A p s m args cd cX0_write 4 := K
  have hl : lv_has ls 4 [(0, .ref o), (1, .int c), (2, .int x), (3, .int v)] := hl
  obtain ⟨hE, hB, hml, hown, hts, hK, hA⟩ := id K
  have i1 := isI_le c 4
  have i2 := isI_le x 16
  refine lv_iload_n hE hB dX0_write_0 rfl (lv_at hl 1 rfl) ?_
  refine kX0_isCore K hI  rfl hl.1 ⟨Nat.le_of_ble_eq_true rfl, Nat.le_of_ble_eq_true rfl⟩ (Nat.le_of_ble_eq_true rfl) ⟨Nat.zero_le _, Nat.zero_le _⟩ dX0_write_1 (fun H locs hI => ?_)
  refine n_if_eq (tgt := 14) hE hB (by omega) dX0_write_4 (by decide) (fun h_4 => ?_) (fun h_4 => ?_)
  · refine lv_iconst (v := -1) hE hB dX0_write_14 (by decide) ?_
    exact g_iret K hr hlk hI rfl rfl dX0_write_15
  · refine lv_iload_n hE hB dX0_write_7 rfl (lv_at hl 2 rfl) ?_
    refine kX0_isCell K hI  rfl hl.1 ⟨Nat.le_of_ble_eq_true rfl, Nat.le_of_ble_eq_true rfl⟩ (Nat.le_of_ble_eq_true rfl) ⟨Nat.zero_le _, Nat.zero_le _⟩ dX0_write_8 (fun H locs hI => ?_)
    refine n_if_ne (tgt := 16) hE hB (by omega) dX0_write_11 (by decide) (fun h_11 => ?_) (fun h_11 => ?_)
    · omega
    · refine lv_iconst (v := -1) hE hB dX0_write_14 (by decide) ?_
      exact g_iret K hr hlk hI rfl rfl dX0_write_15
set_option maxHeartbeats 4000000 in
set_option maxRecDepth 100000 in
theorem met_X0_add_bad {l : Launch} {D : va_G} {o : Nat} {a : Nat → Nat} {d : Nat → ClassId} {C : CS} {T : TS} {c x v : Int32} (h : isI c 4 = 0 ∨ isI x 16 = 0) : GMi l yX0_add (ws_ yX0_add cX0_add 5 (some .int)) (rmD 5) D (tysX d) (wX o a d C T) [.ref o, .int c, .int x, .int v] (wX o a d C T) (-1) := by
  refine GMi.of (by decide) (Nat.le_of_ble_eq_true rfl) ?_
  intro p e s m args below meth cd A ls K hr hlk hI hl
  have K : GC RX0 (tysX d) D A p s m args cd cX0_add 5 := K
  have hl : lv_has ls 5 [(0, .ref o), (1, .int c), (2, .int x), (3, .int v)] := hl
  obtain ⟨hE, hB, hml, hown, hts, hK, hA⟩ := id K
  have i1 := isI_le c 4
  have i2 := isI_le x 16
  refine lv_iload_n hE hB dX0_add_0 rfl (lv_at hl 1 rfl) ?_
  refine kX0_isCore K hI  rfl hl.1 ⟨Nat.le_of_ble_eq_true rfl, Nat.le_of_ble_eq_true rfl⟩ (Nat.le_of_ble_eq_true rfl) ⟨Nat.zero_le _, Nat.zero_le _⟩ dX0_add_1 (fun H locs hI => ?_)
  refine n_if_eq (tgt := 14) hE hB (by omega) dX0_add_4 (by decide) (fun h_4 => ?_) (fun h_4 => ?_)
  · refine lv_iconst (v := -1) hE hB dX0_add_14 (by decide) ?_
    exact g_iret K hr hlk hI rfl rfl dX0_add_15
  · refine lv_iload_n hE hB dX0_add_7 rfl (lv_at hl 2 rfl) ?_
    refine kX0_isCell K hI  rfl hl.1 ⟨Nat.le_of_ble_eq_true rfl, Nat.le_of_ble_eq_true rfl⟩ (Nat.le_of_ble_eq_true rfl) ⟨Nat.zero_le _, Nat.zero_le _⟩ dX0_add_8 (fun H locs hI => ?_)
    refine n_if_ne (tgt := 16) hE hB (by omega) dX0_add_11 (by decide) (fun h_11 => ?_) (fun h_11 => ?_)
    · omega
    · refine lv_iconst (v := -1) hE hB dX0_add_14 (by decide) ?_
      exact g_iret K hr hlk hI rfl rfl dX0_add_15
set_option maxHeartbeats 4000000 in
set_option maxRecDepth 100000 in
theorem met_X0_end_bad {l : Launch} {D : va_G} {o : Nat} {a : Nat → Nat} {d : Nat → ClassId} {C : CS} {T : TS} {c : Int32} (h : isI c 4 = 0) : GMi l yX0_end (ws_ yX0_end cX0_end 6 (some .int)) (rmD 1) D (tysX d) (wX o a d C T) [.ref o, .int c] (wX o a d C T) (-1) := by
  refine GMi.of (by decide) (Nat.le_of_ble_eq_true rfl) ?_
  intro p e s m args below meth cd A ls K hr hlk hI hl
  have K : GC RX0 (tysX d) D A p s m args cd cX0_end 6 := K
  have hl : lv_has ls 6 [(0, .ref o), (1, .int c)] := hl
  obtain ⟨hE, hB, hml, hown, hts, hK, hA⟩ := id K
  have i1 := isI_le c 4
  refine lv_iload_n hE hB dX0_end_0 rfl (lv_at hl 1 rfl) ?_
  refine kX0_isCore K hI  rfl hl.1 ⟨Nat.le_of_ble_eq_true rfl, Nat.le_of_ble_eq_true rfl⟩ (Nat.le_of_ble_eq_true rfl) ⟨Nat.zero_le _, Nat.zero_le _⟩ dX0_end_1 (fun H locs hI => ?_)
  refine n_if_eq (tgt := 16) hE hB (by omega) dX0_end_4 (by decide) (fun h_4 => ?_) (fun h_4 => ?_)
  · refine lv_iconst (v := -1) hE hB dX0_end_16 (by decide) ?_
    exact g_iret K hr hlk hI rfl rfl dX0_end_17
  · omega
set_option maxHeartbeats 4000000 in
set_option maxRecDepth 100000 in
theorem met_X0_giveUp_bad {l : Launch} {D : va_G} {o : Nat} {a : Nat → Nat} {d : Nat → ClassId} {C : CS} {T : TS} {c : Int32} (h : isI c 4 = 0) : GMi l yX0_giveUp (ws_ yX0_giveUp cX0_giveUp 2 (some .int)) (rmD 5) D (tysX d) (wX o a d C T) [.ref o, .int c] (wX o a d C T) (-1) := by
  refine GMi.of (by decide) (Nat.le_of_ble_eq_true rfl) ?_
  intro p e s m args below meth cd A ls K hr hlk hI hl
  have K : GC RX0 (tysX d) D A p s m args cd cX0_giveUp 2 := K
  have hl : lv_has ls 2 [(0, .ref o), (1, .int c)] := hl
  obtain ⟨hE, hB, hml, hown, hts, hK, hA⟩ := id K
  have i1 := isI_le c 4
  refine lv_iload_n hE hB dX0_giveUp_0 rfl (lv_at hl 1 rfl) ?_
  refine kX0_isCore K hI  rfl hl.1 ⟨Nat.le_of_ble_eq_true rfl, Nat.le_of_ble_eq_true rfl⟩ (Nat.le_of_ble_eq_true rfl) ⟨Nat.zero_le _, Nat.zero_le _⟩ dX0_giveUp_1 (fun H locs hI => ?_)
  refine n_if_eq (tgt := 16) hE hB (by omega) dX0_giveUp_4 (by decide) (fun h_4 => ?_) (fun h_4 => ?_)
  · refine lv_iconst (v := -1) hE hB dX0_giveUp_16 (by decide) ?_
    exact g_iret K hr hlk hI rfl rfl dX0_giveUp_17
  · omega
set_option maxHeartbeats 4000000 in
set_option maxRecDepth 100000 in
theorem met_X0_giveAllUp_bad {l : Launch} {D : va_G} {o : Nat} {a : Nat → Nat} {d : Nat → ClassId} {C : CS} {T : TS} {c : Int32} (h : isI c 4 = 0) : GMi l yX0_giveAllUp (ws_ yX0_giveAllUp cX0_giveAllUp 4 (some .int)) (rmD 5) D (tysX d) (wX o a d C T) [.ref o, .int c] (wX o a d C T) (-1) := by
  refine GMi.of (by decide) (Nat.le_of_ble_eq_true rfl) ?_
  intro p e s m args below meth cd A ls K hr hlk hI hl
  have K : GC RX0 (tysX d) D A p s m args cd cX0_giveAllUp 4 := K
  have hl : lv_has ls 4 [(0, .ref o), (1, .int c)] := hl
  obtain ⟨hE, hB, hml, hown, hts, hK, hA⟩ := id K
  have i1 := isI_le c 4
  refine lv_iload_n hE hB dX0_giveAllUp_0 rfl (lv_at hl 1 rfl) ?_
  refine kX0_isCore K hI  rfl hl.1 ⟨Nat.le_of_ble_eq_true rfl, Nat.le_of_ble_eq_true rfl⟩ (Nat.le_of_ble_eq_true rfl) ⟨Nat.zero_le _, Nat.zero_le _⟩ dX0_giveAllUp_1 (fun H locs hI => ?_)
  refine n_if_ne (tgt := 9) hE hB (by omega) dX0_giveAllUp_4 (by decide) (fun h_4 => ?_) (fun h_4 => ?_)
  · omega
  · refine lv_iconst (v := -1) hE hB dX0_giveAllUp_7 (by decide) ?_
    exact g_iret K hr hlk hI rfl rfl dX0_giveAllUp_8
set_option maxHeartbeats 4000000 in
set_option maxRecDepth 100000 in
theorem met_X0_level_bad {l : Launch} {D : va_G} {o : Nat} {a : Nat → Nat} {d : Nat → ClassId} {C : CS} {T : TS} {c : Int32} (h : isI c 4 = 0) : GMi l yX0_level (ws_ yX0_level cX0_level 2 (some .int)) (rmD 1) D (tysX d) (wX o a d C T) [.ref o, .int c] (wX o a d C T) (-1) := by
  refine GMi.of (by decide) (Nat.le_of_ble_eq_true rfl) ?_
  intro p e s m args below meth cd A ls K hr hlk hI hl
  have K : GC RX0 (tysX d) D A p s m args cd cX0_level 2 := K
  have hl : lv_has ls 2 [(0, .ref o), (1, .int c)] := hl
  obtain ⟨hE, hB, hml, hown, hts, hK, hA⟩ := id K
  have i1 := isI_le c 4
  refine lv_iload_n hE hB dX0_level_0 rfl (lv_at hl 1 rfl) ?_
  refine kX0_isCore K hI  rfl hl.1 ⟨Nat.le_of_ble_eq_true rfl, Nat.le_of_ble_eq_true rfl⟩ (Nat.le_of_ble_eq_true rfl) ⟨Nat.zero_le _, Nat.zero_le _⟩ dX0_level_1 (fun H locs hI => ?_)
  refine n_if_eq (tgt := 16) hE hB (by omega) dX0_level_4 (by decide) (fun h_4 => ?_) (fun h_4 => ?_)
  · refine lv_iconst (v := -1) hE hB dX0_level_16 (by decide) ?_
    exact g_iret K hr hlk hI rfl rfl dX0_level_17
  · omega
set_option maxHeartbeats 4000000 in
set_option maxRecDepth 100000 in
theorem met_X0_committed_bad {l : Launch} {D : va_G} {o : Nat} {a : Nat → Nat} {d : Nat → ClassId} {C : CS} {T : TS} {x : Int32} (h : isI x 16 = 0) : GMi l yX0_committed (ws_ yX0_committed cX0_committed 2 (some .int)) (rmD 5) D (tysX d) (wX o a d C T) [.ref o, .int x] (wX o a d C T) (nI 0) := by
  refine GMi.of (by decide) (Nat.le_of_ble_eq_true rfl) ?_
  intro p e s m args below meth cd A ls K hr hlk hI hl
  have K : GC RX0 (tysX d) D A p s m args cd cX0_committed 2 := K
  have hl : lv_has ls 2 [(0, .ref o), (1, .int x)] := hl
  obtain ⟨hE, hB, hml, hown, hts, hK, hA⟩ := id K
  have i2 := isI_le x 16
  refine lv_iload_n hE hB dX0_committed_0 rfl (lv_at hl 1 rfl) ?_
  refine kX0_isCell K hI  rfl hl.1 ⟨Nat.le_of_ble_eq_true rfl, Nat.le_of_ble_eq_true rfl⟩ (Nat.le_of_ble_eq_true rfl) ⟨Nat.zero_le _, Nat.zero_le _⟩ dX0_committed_1 (fun H locs hI => ?_)
  refine n_if_eq (tgt := 15) hE hB (by omega) dX0_committed_4 (by decide) (fun h_4 => ?_) (fun h_4 => ?_)
  · refine lv_iconst (v := nI 0) hE hB dX0_committed_15 (by decide) ?_
    exact g_iret K hr hlk hI rfl rfl dX0_committed_16
  · omega
set_option maxHeartbeats 4000000 in
set_option maxRecDepth 100000 in
theorem met_X0_readBy_bad {l : Launch} {D : va_G} {o : Nat} {a : Nat → Nat} {d : Nat → ClassId} {C : CS} {T : TS} {c : Int32} (h : isI c 4 = 0) : GMi l yX0_readBy (ws_ yX0_readBy cX0_readBy 2 (some .int)) (rmD 1) D (tysX d) (wX o a d C T) [.ref o, .int c] (wX o a d C T) (nI 0) := by
  refine GMi.of (by decide) (Nat.le_of_ble_eq_true rfl) ?_
  intro p e s m args below meth cd A ls K hr hlk hI hl
  have K : GC RX0 (tysX d) D A p s m args cd cX0_readBy 2 := K
  have hl : lv_has ls 2 [(0, .ref o), (1, .int c)] := hl
  obtain ⟨hE, hB, hml, hown, hts, hK, hA⟩ := id K
  have i1 := isI_le c 4
  refine lv_iload_n hE hB dX0_readBy_0 rfl (lv_at hl 1 rfl) ?_
  refine kX0_isCore K hI  rfl hl.1 ⟨Nat.le_of_ble_eq_true rfl, Nat.le_of_ble_eq_true rfl⟩ (Nat.le_of_ble_eq_true rfl) ⟨Nat.zero_le _, Nat.zero_le _⟩ dX0_readBy_1 (fun H locs hI => ?_)
  refine n_if_eq (tgt := 15) hE hB (by omega) dX0_readBy_4 (by decide) (fun h_4 => ?_) (fun h_4 => ?_)
  · refine lv_iconst (v := nI 0) hE hB dX0_readBy_15 (by decide) ?_
    exact g_iret K hr hlk hI rfl rfl dX0_readBy_16
  · omega
set_option maxHeartbeats 4000000 in
set_option maxRecDepth 100000 in
theorem met_X0_writtenBy_bad {l : Launch} {D : va_G} {o : Nat} {a : Nat → Nat} {d : Nat → ClassId} {C : CS} {T : TS} {c : Int32} (h : isI c 4 = 0) : GMi l yX0_writtenBy (ws_ yX0_writtenBy cX0_writtenBy 2 (some .int)) (rmD 1) D (tysX d) (wX o a d C T) [.ref o, .int c] (wX o a d C T) (nI 0) := by
  refine GMi.of (by decide) (Nat.le_of_ble_eq_true rfl) ?_
  intro p e s m args below meth cd A ls K hr hlk hI hl
  have K : GC RX0 (tysX d) D A p s m args cd cX0_writtenBy 2 := K
  have hl : lv_has ls 2 [(0, .ref o), (1, .int c)] := hl
  obtain ⟨hE, hB, hml, hown, hts, hK, hA⟩ := id K
  have i1 := isI_le c 4
  refine lv_iload_n hE hB dX0_writtenBy_0 rfl (lv_at hl 1 rfl) ?_
  refine kX0_isCore K hI  rfl hl.1 ⟨Nat.le_of_ble_eq_true rfl, Nat.le_of_ble_eq_true rfl⟩ (Nat.le_of_ble_eq_true rfl) ⟨Nat.zero_le _, Nat.zero_le _⟩ dX0_writtenBy_1 (fun H locs hI => ?_)
  refine n_if_eq (tgt := 15) hE hB (by omega) dX0_writtenBy_4 (by decide) (fun h_4 => ?_) (fun h_4 => ?_)
  · refine lv_iconst (v := nI 0) hE hB dX0_writtenBy_15 (by decide) ?_
    exact g_iret K hr hlk hI rfl rfl dX0_writtenBy_16
  · omega
set_option maxHeartbeats 4000000 in
set_option maxRecDepth 100000 in
theorem met_X0_rivals_bad {l : Launch} {D : va_G} {o : Nat} {a : Nat → Nat} {d : Nat → ClassId} {C : CS} {T : TS} {c x v : Int32} (h : isI c 4 = 0 ∨ isI x 16 = 0 ∨ (¬ v = 0 ∧ ¬ v = nI 1)) : GMi l yX0_rivals (ws_ yX0_rivals cX0_rivals 4 (some .int)) (rmD 2) D (tysX d) (wX o a d C T) [.ref o, .int c, .int x, .int v] (wX o a d C T) (nI 0) := by
  refine GMi.of (by decide) (Nat.le_of_ble_eq_true rfl) ?_
  intro p e s m args below meth cd A ls K hr hlk hI hl
  have K : GC RX0 (tysX d) D A p s m args cd cX0_rivals 4 := K
  have hl : lv_has ls 4 [(0, .ref o), (1, .int c), (2, .int x), (3, .int v)] := hl
  obtain ⟨hE, hB, hml, hown, hts, hK, hA⟩ := id K
  have i1 := isI_le c 4
  have i2 := isI_le x 16
  refine lv_iload_n hE hB dX0_rivals_0 rfl (lv_at hl 1 rfl) ?_
  refine kX0_isCore K hI  rfl hl.1 ⟨Nat.le_of_ble_eq_true rfl, Nat.le_of_ble_eq_true rfl⟩ (Nat.le_of_ble_eq_true rfl) ⟨Nat.zero_le _, Nat.zero_le _⟩ dX0_rivals_1 (fun H locs hI => ?_)
  refine n_if_eq (tgt := 42) hE hB (by omega) dX0_rivals_4 (by decide) (fun h_4 => ?_) (fun h_4 => ?_)
  · refine lv_iconst (v := nI 0) hE hB dX0_rivals_42 (by decide) ?_
    exact g_iret K hr hlk hI rfl rfl dX0_rivals_43
  · refine lv_iload_n hE hB dX0_rivals_7 rfl (lv_at hl 2 rfl) ?_
    refine kX0_isCell K hI  rfl hl.1 ⟨Nat.le_of_ble_eq_true rfl, Nat.le_of_ble_eq_true rfl⟩ (Nat.le_of_ble_eq_true rfl) ⟨Nat.zero_le _, Nat.zero_le _⟩ dX0_rivals_8 (fun H locs hI => ?_)
    refine n_if_eq (tgt := 42) hE hB (by omega) dX0_rivals_11 (by decide) (fun h_11 => ?_) (fun h_11 => ?_)
    · refine lv_iconst (v := nI 0) hE hB dX0_rivals_42 (by decide) ?_
      exact g_iret K hr hlk hI rfl rfl dX0_rivals_43
    · refine lv_iload_n hE hB dX0_rivals_14 rfl (lv_at hl 3 rfl) ?_
      refine lv_if_eq (tgt := 23) hE hB dX0_rivals_15 (by decide) (fun h_15 => ?_) (fun h_15 => ?_)
      · exact absurd h_15 (by rcases h with h | h | h; omega; omega; exact h.1)
      · refine lv_iload_n hE hB dX0_rivals_18 rfl (lv_at hl 3 rfl) ?_
        refine lv_iconst (v := nI 1) hE hB dX0_rivals_19 (by decide) ?_
        refine lv_icmp_ne (tgt := 42) hE hB dX0_rivals_20 (by decide) (fun h_20 => ?_) (fun h_20 => ?_)
        · refine lv_iconst (v := nI 0) hE hB dX0_rivals_42 (by decide) ?_
          exact g_iret K hr hlk hI rfl rfl dX0_rivals_43
        · exact absurd h_20 (by rcases h with h | h | h; omega; omega; exact h.2)
set_option maxHeartbeats 4000000 in
set_option maxRecDepth 100000 in
theorem met_X0_begin {l : Launch} {D : va_G} {o : Nat} {a : Nat → Nat} {d : Nat → ClassId} {C : CS} {T : TS} {c : Nat} (hc : c < 4) (hT : WT T) : GMi l yX0_begin (ws_ yX0_begin cX0_begin 3 (some .int)) (rmD 1) D (tysX d) (wX o a d C T) [.ref o, .int (nI c)] (wX o a d C (bgT T c)) (bgR T c) := by
  refine GMi.of (by decide) (Nat.le_of_ble_eq_true rfl) ?_
  intro p e s m args below meth cd A ls K hr hlk hI hl
  have K : GC RX0 (tysX d) D A p s m args cd cX0_begin 3 := K
  have hl : lv_has ls 3 [(0, .ref o), (1, .int (nI c))] := hl
  obtain ⟨hE, hB, hml, hown, hts, hK, hA⟩ := id K
  have hlv := hT.1 c hc
  refine lv_iload_n hE hB dX0_begin_0 rfl (lv_at hl 1 rfl) ?_
  refine kX0_isCore K hI  (v := (nI 1)) (congrArg nI (isI_ok (by omega) (by decide))) hl.1 ⟨Nat.le_of_ble_eq_true rfl, Nat.le_of_ble_eq_true rfl⟩ (Nat.le_of_ble_eq_true rfl) ⟨Nat.zero_le _, Nat.zero_le _⟩ dX0_begin_1 (fun H locs hI => ?_)
  refine n_if_eq (tgt := 17) hE hB (by omega) dX0_begin_4 (by decide) (fun h_4 => ?_) (fun h_4 => ?_)
  · exact absurd h_4 (by decide)
  · refine lv_aload_n hE hB dX0_begin_7 rfl (lv_at hl 0 rfl) ?_
    refine xg4 hE hB hts hown hK hI dX0_begin_8 ?_
    refine lv_iload_n hE hB dX0_begin_11 rfl (lv_at hl 1 rfl) ?_
    refine xl4 hE hB hK hI (i := c) (by omega) dX0_begin_12 ?_
    refine lv_iconst (v := nI 3) hE hB dX0_begin_13 (by decide) ?_
    refine n_ic_lt (tgt := 19) hE hB (by omega) (by omega) dX0_begin_14 (by decide) (fun h_14 => ?_) (fun h_14 => ?_)
    · refine lv_iload_n hE hB dX0_begin_19 rfl (lv_at hl 1 rfl) ?_
      refine lv_iconst (v := nI 3) hE hB dX0_begin_20 (by decide) ?_
      refine n_mul hE hB dX0_begin_21 ?_
      refine lv_aload_n hE hB dX0_begin_22 rfl (lv_at hl 0 rfl) ?_
      refine xg4 hE hB hts hown hK hI dX0_begin_23 ?_
      refine lv_iload_n hE hB dX0_begin_26 rfl (lv_at hl 1 rfl) ?_
      refine xl4 hE hB hK hI (i := c) (by omega) dX0_begin_27 ?_
      refine n_add hE hB dX0_begin_28 ?_
      refine lv_istore_n (lv' := [(2, .int (nI ((c * 3) + (tL T c)))), (0, .ref o), (1, .int (nI c))]) hE hB dX0_begin_29 rfl hl (by decide) rfl (fun ls hl => ?_)
      refine lv_aload_n hE hB dX0_begin_30 rfl (lv_at hl 1 rfl) ?_
      refine xg5 hE hB hts hown hK hI dX0_begin_31 ?_
      refine lv_iload_n hE hB dX0_begin_34 rfl (lv_at hl 0 rfl) ?_
      refine lv_iconst (v := nI 0) hE hB dX0_begin_35 (by decide) ?_
      refine xs5 hE hB hK hI (i := ((c * 3) + (tL T c))) (v := (nI 0)) (by omega) dX0_begin_36 (fun H locs hI => ?_)
      have hI : GI D A s.heap (wX o a d C (tL T, upd (tR T) ((c * 3) + (tL T c)) (nI 0), tW T, tZ T, tC T, tO T)) H locs := hI
      refine lv_aload_n hE hB dX0_begin_37 rfl (lv_at hl 1 rfl) ?_
      refine xg6 hE hB hts hown hK hI dX0_begin_38 ?_
      refine lv_iload_n hE hB dX0_begin_41 rfl (lv_at hl 0 rfl) ?_
      refine lv_iconst (v := nI 0) hE hB dX0_begin_42 (by decide) ?_
      refine xs6 hE hB hK hI (i := ((c * 3) + (tL T c))) (v := (nI 0)) (by omega) dX0_begin_43 (fun H locs hI => ?_)
      have hI : GI D A s.heap (wX o a d C (tL T, upd (tR T) ((c * 3) + (tL T c)) (nI 0), upd (tW T) ((c * 3) + (tL T c)) (nI 0), tZ T, tC T, tO T)) H locs := hI
      refine lv_aload_n hE hB dX0_begin_44 rfl (lv_at hl 1 rfl) ?_
      refine xg7 hE hB hts hown hK hI dX0_begin_45 ?_
      refine lv_iload_n hE hB dX0_begin_48 rfl (lv_at hl 0 rfl) ?_
      refine lv_iconst (v := nI 0) hE hB dX0_begin_49 (by decide) ?_
      refine xs7 hE hB hK hI (i := ((c * 3) + (tL T c))) (v := 0) (by omega) (by omega) dX0_begin_50 (fun H locs hI => ?_)
      have hI : GI D A s.heap (wX o a d C (tL T, upd (tR T) ((c * 3) + (tL T c)) (nI 0), upd (tW T) ((c * 3) + (tL T c)) (nI 0), upN (tZ T) ((c * 3) + (tL T c)) 0, tC T, tO T)) H locs := hI
      refine lv_aload_n hE hB dX0_begin_51 rfl (lv_at hl 1 rfl) ?_
      refine xg4 hE hB hts hown hK hI dX0_begin_52 ?_
      refine lv_iload_n hE hB dX0_begin_55 rfl (lv_at hl 2 rfl) ?_
      refine lv_dup2_11 hE hB dX0_begin_56 rfl rfl ?_
      refine xl4 hE hB hK hI (i := c) (by omega) dX0_begin_57 ?_
      refine n_top (y := (nI (tL T c))) rfl ?_
      refine lv_iconst (v := nI 1) hE hB dX0_begin_58 (by decide) ?_
      refine n_add hE hB dX0_begin_59 ?_
      refine n_i2b hE hB (by omega) dX0_begin_60 ?_
      refine xs4 hE hB hK hI (i := c) (v := ((tL T c) + 1)) (by omega) (by omega) dX0_begin_61 (fun H locs hI => ?_)
      have hI : GI D A s.heap (wX o a d C (upN (tL T) c ((tL T c) + 1), upd (tR T) ((c * 3) + (tL T c)) (nI 0), upd (tW T) ((c * 3) + (tL T c)) (nI 0), upN (tZ T) ((c * 3) + (tL T c)) 0, tC T, tO T)) H locs := hI
      refine lv_aload_n hE hB dX0_begin_62 rfl (lv_at hl 1 rfl) ?_
      refine xg4 hE hB hts hown hK hI dX0_begin_63 ?_
      refine lv_iload_n hE hB dX0_begin_66 rfl (lv_at hl 2 rfl) ?_
      refine xl4 hE hB hK hI (i := c) (by omega) dX0_begin_67 ?_
      refine n_top (y := (nI ((upN (tL T) c ((tL T c) + 1)) c))) rfl ?_
      refine n_top (y := (nI (tL T c + 1))) (congrArg nI upN_s) ?_
      exact g_iret K hr hlk hI (by simp [bgT, h_4, h_14]) (by simp [bgR, h_4, h_14]) dX0_begin_68
    · refine lv_iconst (v := -1) hE hB dX0_begin_17 (by decide) ?_
      exact g_iret K hr hlk hI (by simp [bgT, h_4, Nat.not_lt.mpr h_14]) (by simp [bgR, h_4, Nat.not_lt.mpr h_14]) dX0_begin_18
set_option maxHeartbeats 4000000 in
set_option maxRecDepth 100000 in
theorem met_X0_read_no {l : Launch} {D : va_G} {o : Nat} {a : Nat → Nat} {d : Nat → ClassId} {C : CS} {T : TS} {c x : Nat} (hc : c < 4) (hx : x < 16) (hW : WC C) (hT : WT T) (hv : ¬ rivs T c x 0 = 0) : GMi l yX0_read (ws_ yX0_read cX0_read 3 (some .int)) (rmD 3) D (tysX d) (wX o a d C T) [.ref o, .int (nI c), .int (nI x)] (wX o a d C T) (-2) := by
  refine GMi.of (by decide) (Nat.le_of_ble_eq_true rfl) ?_
  intro p e s m args below meth cd A ls K hr hlk hI hl
  have K : GC RX0 (tysX d) D A p s m args cd cX0_read 3 := K
  have hl : lv_has ls 3 [(0, .ref o), (1, .int (nI c)), (2, .int (nI x))] := hl
  obtain ⟨hE, hB, hml, hown, hts, hK, hA⟩ := id K
  refine lv_iload_n hE hB dX0_read_0 rfl (lv_at hl 1 rfl) ?_
  refine kX0_isCore K hI  (v := (nI 1)) (congrArg nI (isI_ok (by omega) (by decide))) hl.1 ⟨Nat.le_of_ble_eq_true rfl, Nat.le_of_ble_eq_true rfl⟩ (Nat.le_of_ble_eq_true rfl) ⟨Nat.zero_le _, Nat.zero_le _⟩ dX0_read_1 (fun H locs hI => ?_)
  refine n_if_eq (tgt := 14) hE hB (by omega) dX0_read_4 (by decide) (fun h_4 => ?_) (fun h_4 => ?_)
  · exact absurd h_4 (by decide)
  · refine lv_iload_n hE hB dX0_read_7 rfl (lv_at hl 2 rfl) ?_
    refine kX0_isCell K hI  (v := (nI 1)) (congrArg nI (isI_ok (by omega) (by decide))) hl.1 ⟨Nat.le_of_ble_eq_true rfl, Nat.le_of_ble_eq_true rfl⟩ (Nat.le_of_ble_eq_true rfl) ⟨Nat.zero_le _, Nat.zero_le _⟩ dX0_read_8 (fun H locs hI => ?_)
    refine n_if_ne (tgt := 16) hE hB (by omega) dX0_read_11 (by decide) (fun h_11 => ?_) (fun h_11 => ?_)
    · refine lv_aload_n hE hB dX0_read_16 rfl (lv_at hl 0 rfl) ?_
      refine lv_iload_n hE hB dX0_read_17 rfl (lv_at hl 1 rfl) ?_
      refine lv_iload_n hE hB dX0_read_18 rfl (lv_at hl 2 rfl) ?_
      refine lv_iconst (v := nI 0) hE hB dX0_read_19 (by decide) ?_
      refine kX0_rivalsOf K hI (by omega) (by omega) (by omega) hT rfl hl.1 ⟨Nat.le_of_ble_eq_true rfl, Nat.le_of_ble_eq_true rfl⟩ (Nat.le_of_ble_eq_true rfl) ⟨Nat.zero_le _, Nat.zero_le _⟩ dX0_read_20 (fun H locs hI => ?_)
      refine lv_if_eq (tgt := 29) hE hB dX0_read_23 (by decide) (fun h_23 => ?_) (fun h_23 => ?_)
      · exact absurd h_23 hv
      · refine lv_bipush (v := -2) hE hB dX0_read_26 (by decide) ?_
        exact g_iret K hr hlk hI rfl rfl dX0_read_28
    · exact absurd h_11 (by decide)
set_option maxHeartbeats 4000000 in
set_option maxRecDepth 100000 in
theorem met_X0_read {l : Launch} {D : va_G} {o : Nat} {a : Nat → Nat} {d : Nat → ClassId} {C : CS} {T : TS} {c x : Nat} (hc : c < 4) (hx : x < 16) (hW : WC C) (hT : WT T) (hv : rivs T c x 0 = 0) : GMi l yX0_read (ws_ yX0_read cX0_read 3 (some .int)) (rmD 3) D (tysX d) (wX o a d C T) [.ref o, .int (nI c), .int (nI x)] (wX o a d (ftch C c x) (ntR T c x)) (nI 0) := by
  refine GMi.of (by decide) (Nat.le_of_ble_eq_true rfl) ?_
  intro p e s m args below meth cd A ls K hr hlk hI hl
  have K : GC RX0 (tysX d) D A p s m args cd cX0_read 3 := K
  have hl : lv_has ls 3 [(0, .ref o), (1, .int (nI c)), (2, .int (nI x))] := hl
  obtain ⟨hE, hB, hml, hown, hts, hK, hA⟩ := id K
  refine lv_iload_n hE hB dX0_read_0 rfl (lv_at hl 1 rfl) ?_
  refine kX0_isCore K hI  (v := (nI 1)) (congrArg nI (isI_ok (by omega) (by decide))) hl.1 ⟨Nat.le_of_ble_eq_true rfl, Nat.le_of_ble_eq_true rfl⟩ (Nat.le_of_ble_eq_true rfl) ⟨Nat.zero_le _, Nat.zero_le _⟩ dX0_read_1 (fun H locs hI => ?_)
  refine n_if_eq (tgt := 14) hE hB (by omega) dX0_read_4 (by decide) (fun h_4 => ?_) (fun h_4 => ?_)
  · exact absurd h_4 (by decide)
  · refine lv_iload_n hE hB dX0_read_7 rfl (lv_at hl 2 rfl) ?_
    refine kX0_isCell K hI  (v := (nI 1)) (congrArg nI (isI_ok (by omega) (by decide))) hl.1 ⟨Nat.le_of_ble_eq_true rfl, Nat.le_of_ble_eq_true rfl⟩ (Nat.le_of_ble_eq_true rfl) ⟨Nat.zero_le _, Nat.zero_le _⟩ dX0_read_8 (fun H locs hI => ?_)
    refine n_if_ne (tgt := 16) hE hB (by omega) dX0_read_11 (by decide) (fun h_11 => ?_) (fun h_11 => ?_)
    · refine lv_aload_n hE hB dX0_read_16 rfl (lv_at hl 0 rfl) ?_
      refine lv_iload_n hE hB dX0_read_17 rfl (lv_at hl 1 rfl) ?_
      refine lv_iload_n hE hB dX0_read_18 rfl (lv_at hl 2 rfl) ?_
      refine lv_iconst (v := nI 0) hE hB dX0_read_19 (by decide) ?_
      refine kX0_rivalsOf K hI (by omega) (by omega) (by omega) hT rfl hl.1 ⟨Nat.le_of_ble_eq_true rfl, Nat.le_of_ble_eq_true rfl⟩ (Nat.le_of_ble_eq_true rfl) ⟨Nat.zero_le _, Nat.zero_le _⟩ dX0_read_20 (fun H locs hI => ?_)
      refine lv_if_eq (tgt := 29) hE hB dX0_read_23 (by decide) (fun h_23 => ?_) (fun h_23 => ?_)
      · refine lv_aload_n hE hB dX0_read_29 rfl (lv_at hl 0 rfl) ?_
        refine lv_iload_n hE hB dX0_read_30 rfl (lv_at hl 1 rfl) ?_
        refine lv_iload_n hE hB dX0_read_31 rfl (lv_at hl 2 rfl) ?_
        refine kX0_fetch K hI (by omega) (by omega) hW hl.1 ⟨Nat.le_of_ble_eq_true rfl, Nat.le_of_ble_eq_true rfl⟩ (Nat.le_of_ble_eq_true rfl) ⟨Nat.zero_le _, Nat.zero_le _⟩ dX0_read_32 (fun H locs hI => ?_)
        refine lv_aload_n hE hB dX0_read_35 rfl (lv_at hl 0 rfl) ?_
        refine lv_iload_n hE hB dX0_read_36 rfl (lv_at hl 1 rfl) ?_
        refine lv_iload_n hE hB dX0_read_37 rfl (lv_at hl 2 rfl) ?_
        refine kX0_noteRead K hI (by omega) hT hl.1 ⟨Nat.le_of_ble_eq_true rfl, Nat.le_of_ble_eq_true rfl⟩ (Nat.le_of_ble_eq_true rfl) ⟨Nat.zero_le _, Nat.zero_le _⟩ dX0_read_38 (fun H locs hI => ?_)
        refine lv_iconst (v := nI 0) hE hB dX0_read_41 (by decide) ?_
        exact g_iret K hr hlk hI rfl rfl dX0_read_42
      · exact absurd hv h_23
    · exact absurd h_11 (by decide)
set_option maxHeartbeats 4000000 in
set_option maxRecDepth 100000 in
theorem met_X0_sees {l : Launch} {D : va_G} {o : Nat} {a : Nat → Nat} {d : Nat → ClassId} {C : CS} {T : TS} {c x : Nat} (hc : c < 4) (hx : x < 16) (hW : WC C) (hT : WT T) : GMi l yX0_sees (ws_ yX0_sees cX0_sees 3 (some .int)) (rmD 5) D (tysX d) (wX o a d C T) [.ref o, .int (nI c), .int (nI x)] (wX o a d C T) (seeX C T c x) := by
  refine GMi.of (by decide) (Nat.le_of_ble_eq_true rfl) ?_
  intro p e s m args below meth cd A ls K hr hlk hI hl
  have K : GC RX0 (tysX d) D A p s m args cd cX0_sees 3 := K
  have hl : lv_has ls 3 [(0, .ref o), (1, .int (nI c)), (2, .int (nI x))] := hl
  obtain ⟨hE, hB, hml, hown, hts, hK, hA⟩ := id K
  refine lv_iload_n hE hB dX0_sees_0 rfl (lv_at hl 1 rfl) ?_
  refine kX0_isCore K hI  (v := (nI 1)) (congrArg nI (isI_ok (by omega) (by decide))) hl.1 ⟨Nat.le_of_ble_eq_true rfl, Nat.le_of_ble_eq_true rfl⟩ (Nat.le_of_ble_eq_true rfl) ⟨Nat.zero_le _, Nat.zero_le _⟩ dX0_sees_1 (fun H locs hI => ?_)
  refine n_if_eq (tgt := 14) hE hB (by omega) dX0_sees_4 (by decide) (fun h_4 => ?_) (fun h_4 => ?_)
  · exact absurd h_4 (by decide)
  · refine lv_iload_n hE hB dX0_sees_7 rfl (lv_at hl 2 rfl) ?_
    refine kX0_isCell K hI  (v := (nI 1)) (congrArg nI (isI_ok (by omega) (by decide))) hl.1 ⟨Nat.le_of_ble_eq_true rfl, Nat.le_of_ble_eq_true rfl⟩ (Nat.le_of_ble_eq_true rfl) ⟨Nat.zero_le _, Nat.zero_le _⟩ dX0_sees_8 (fun H locs hI => ?_)
    refine n_if_ne (tgt := 16) hE hB (by omega) dX0_sees_11 (by decide) (fun h_11 => ?_) (fun h_11 => ?_)
    · refine lv_aload_n hE hB dX0_sees_16 rfl (lv_at hl 0 rfl) ?_
      refine lv_iload_n hE hB dX0_sees_17 rfl (lv_at hl 2 rfl) ?_
      refine kX0_writerOf K hI (by omega) hT rfl hl.1 ⟨Nat.le_of_ble_eq_true rfl, Nat.le_of_ble_eq_true rfl⟩ (Nat.le_of_ble_eq_true rfl) ⟨Nat.zero_le _, Nat.zero_le _⟩ dX0_sees_18 (fun H locs hI => ?_)
      refine lv_iload_n hE hB dX0_sees_21 rfl (lv_at hl 1 rfl) ?_
      refine lv_icmp_ne (tgt := 33) hE hB dX0_sees_22 (by decide) (fun h_22 => ?_) (fun h_22 => ?_)
      · refine lv_aload_n hE hB dX0_sees_33 rfl (lv_at hl 0 rfl) ?_
        refine lv_iload_n hE hB dX0_sees_34 rfl (lv_at hl 2 rfl) ?_
        refine kX0_committedIn K hI (by omega) hW hT rfl hl.1 ⟨Nat.le_of_ble_eq_true rfl, Nat.le_of_ble_eq_true rfl⟩ (Nat.le_of_ble_eq_true rfl) ⟨Nat.zero_le _, Nat.zero_le _⟩ dX0_sees_35 (fun H locs hI => ?_)
        exact g_iret K hr hlk hI rfl (by simp [seeX, h_4, h_11, h_22]) dX0_sees_38
      · refine lv_aload_n hE hB dX0_sees_25 rfl (lv_at hl 0 rfl) ?_
        refine lv_iload_n hE hB dX0_sees_26 rfl (lv_at hl 2 rfl) ?_
        refine kX0_newest K hI (by omega) hW rfl hl.1 ⟨Nat.le_of_ble_eq_true rfl, Nat.le_of_ble_eq_true rfl⟩ (Nat.le_of_ble_eq_true rfl) ⟨Nat.zero_le _, Nat.zero_le _⟩ dX0_sees_27 (fun H locs hI => ?_)
        refine lv_goto (tgt := 38) hE hB dX0_sees_30 (by decide) ?_
        exact g_iret K hr hlk hI rfl (by simp [seeX, h_4, h_11, h_22]) dX0_sees_38
    · exact absurd h_11 (by decide)
set_option maxHeartbeats 4000000 in
set_option maxRecDepth 100000 in
theorem met_X0_write_no {l : Launch} {D : va_G} {o : Nat} {a : Nat → Nat} {d : Nat → ClassId} {C : CS} {T : TS} {c x : Nat} {v : Int32} (hc : c < 4) (hx : x < 16) (hW : WC C) (hT : WT T) (hv : ¬ rivs T c x 1 = 0) : GMi l yX0_write (ws_ yX0_write cX0_write 4 (some .int)) (rmD 5) D (tysX d) (wX o a d C T) [.ref o, .int (nI c), .int (nI x), .int v] (wX o a d C T) (-2) := by
  refine GMi.of (by decide) (Nat.le_of_ble_eq_true rfl) ?_
  intro p e s m args below meth cd A ls K hr hlk hI hl
  have K : GC RX0 (tysX d) D A p s m args cd cX0_write 4 := K
  have hl : lv_has ls 4 [(0, .ref o), (1, .int (nI c)), (2, .int (nI x)), (3, .int v)] := hl
  obtain ⟨hE, hB, hml, hown, hts, hK, hA⟩ := id K
  refine lv_iload_n hE hB dX0_write_0 rfl (lv_at hl 1 rfl) ?_
  refine kX0_isCore K hI  (v := (nI 1)) (congrArg nI (isI_ok (by omega) (by decide))) hl.1 ⟨Nat.le_of_ble_eq_true rfl, Nat.le_of_ble_eq_true rfl⟩ (Nat.le_of_ble_eq_true rfl) ⟨Nat.zero_le _, Nat.zero_le _⟩ dX0_write_1 (fun H locs hI => ?_)
  refine n_if_eq (tgt := 14) hE hB (by omega) dX0_write_4 (by decide) (fun h_4 => ?_) (fun h_4 => ?_)
  · exact absurd h_4 (by decide)
  · refine lv_iload_n hE hB dX0_write_7 rfl (lv_at hl 2 rfl) ?_
    refine kX0_isCell K hI  (v := (nI 1)) (congrArg nI (isI_ok (by omega) (by decide))) hl.1 ⟨Nat.le_of_ble_eq_true rfl, Nat.le_of_ble_eq_true rfl⟩ (Nat.le_of_ble_eq_true rfl) ⟨Nat.zero_le _, Nat.zero_le _⟩ dX0_write_8 (fun H locs hI => ?_)
    refine n_if_ne (tgt := 16) hE hB (by omega) dX0_write_11 (by decide) (fun h_11 => ?_) (fun h_11 => ?_)
    · refine lv_aload_n hE hB dX0_write_16 rfl (lv_at hl 0 rfl) ?_
      refine lv_iload_n hE hB dX0_write_17 rfl (lv_at hl 1 rfl) ?_
      refine lv_iload_n hE hB dX0_write_18 rfl (lv_at hl 2 rfl) ?_
      refine lv_iconst (v := nI 1) hE hB dX0_write_19 (by decide) ?_
      refine kX0_rivalsOf K hI (by omega) (by omega) (by omega) hT rfl hl.1 ⟨Nat.le_of_ble_eq_true rfl, Nat.le_of_ble_eq_true rfl⟩ (Nat.le_of_ble_eq_true rfl) ⟨Nat.zero_le _, Nat.zero_le _⟩ dX0_write_20 (fun H locs hI => ?_)
      refine lv_if_eq (tgt := 29) hE hB dX0_write_23 (by decide) (fun h_23 => ?_) (fun h_23 => ?_)
      · exact absurd h_23 hv
      · refine lv_bipush (v := -2) hE hB dX0_write_26 (by decide) ?_
        exact g_iret K hr hlk hI rfl rfl dX0_write_28
    · exact absurd h_11 (by decide)
set_option maxHeartbeats 4000000 in
set_option maxRecDepth 100000 in
theorem met_X0_write {l : Launch} {D : va_G} {o : Nat} {a : Nat → Nat} {d : Nat → ClassId} {C : CS} {T : TS} {c x : Nat} {v : Int32} (hc : c < 4) (hx : x < 16) (hW : WC C) (hT : WT T) (hz : tL T c ≠ 0 → bN (tW T (c * 3 + tL T c - 1)) x = 0 → tZ T (c * 3 + tL T c - 1) < 16) (hv : rivs T c x 1 = 0) : GMi l yX0_write (ws_ yX0_write cX0_write 4 (some .int)) (rmD 5) D (tysX d) (wX o a d C T) [.ref o, .int (nI c), .int (nI x), .int v] (wX o a d (stor C c x v) (chT C T c x)) (nI 0) := by
  refine GMi.of (by decide) (Nat.le_of_ble_eq_true rfl) ?_
  intro p e s m args below meth cd A ls K hr hlk hI hl
  have K : GC RX0 (tysX d) D A p s m args cd cX0_write 4 := K
  have hl : lv_has ls 4 [(0, .ref o), (1, .int (nI c)), (2, .int (nI x)), (3, .int v)] := hl
  obtain ⟨hE, hB, hml, hown, hts, hK, hA⟩ := id K
  refine lv_iload_n hE hB dX0_write_0 rfl (lv_at hl 1 rfl) ?_
  refine kX0_isCore K hI  (v := (nI 1)) (congrArg nI (isI_ok (by omega) (by decide))) hl.1 ⟨Nat.le_of_ble_eq_true rfl, Nat.le_of_ble_eq_true rfl⟩ (Nat.le_of_ble_eq_true rfl) ⟨Nat.zero_le _, Nat.zero_le _⟩ dX0_write_1 (fun H locs hI => ?_)
  refine n_if_eq (tgt := 14) hE hB (by omega) dX0_write_4 (by decide) (fun h_4 => ?_) (fun h_4 => ?_)
  · exact absurd h_4 (by decide)
  · refine lv_iload_n hE hB dX0_write_7 rfl (lv_at hl 2 rfl) ?_
    refine kX0_isCell K hI  (v := (nI 1)) (congrArg nI (isI_ok (by omega) (by decide))) hl.1 ⟨Nat.le_of_ble_eq_true rfl, Nat.le_of_ble_eq_true rfl⟩ (Nat.le_of_ble_eq_true rfl) ⟨Nat.zero_le _, Nat.zero_le _⟩ dX0_write_8 (fun H locs hI => ?_)
    refine n_if_ne (tgt := 16) hE hB (by omega) dX0_write_11 (by decide) (fun h_11 => ?_) (fun h_11 => ?_)
    · refine lv_aload_n hE hB dX0_write_16 rfl (lv_at hl 0 rfl) ?_
      refine lv_iload_n hE hB dX0_write_17 rfl (lv_at hl 1 rfl) ?_
      refine lv_iload_n hE hB dX0_write_18 rfl (lv_at hl 2 rfl) ?_
      refine lv_iconst (v := nI 1) hE hB dX0_write_19 (by decide) ?_
      refine kX0_rivalsOf K hI (by omega) (by omega) (by omega) hT rfl hl.1 ⟨Nat.le_of_ble_eq_true rfl, Nat.le_of_ble_eq_true rfl⟩ (Nat.le_of_ble_eq_true rfl) ⟨Nat.zero_le _, Nat.zero_le _⟩ dX0_write_20 (fun H locs hI => ?_)
      refine lv_if_eq (tgt := 29) hE hB dX0_write_23 (by decide) (fun h_23 => ?_) (fun h_23 => ?_)
      · refine lv_aload_n hE hB dX0_write_29 rfl (lv_at hl 0 rfl) ?_
        refine lv_iload_n hE hB dX0_write_30 rfl (lv_at hl 1 rfl) ?_
        refine lv_iload_n hE hB dX0_write_31 rfl (lv_at hl 2 rfl) ?_
        refine lv_iload_n hE hB dX0_write_32 rfl (lv_at hl 3 rfl) ?_
        refine kX0_change K hI hc hx hW hT hz hl.1 ⟨Nat.le_of_ble_eq_true rfl, Nat.le_of_ble_eq_true rfl⟩ (Nat.le_of_ble_eq_true rfl) ⟨Nat.zero_le _, Nat.zero_le _⟩ dX0_write_33 (fun H locs hI => ?_)
        refine lv_iconst (v := nI 0) hE hB dX0_write_36 (by decide) ?_
        exact g_iret K hr hlk hI rfl rfl dX0_write_37
      · exact absurd hv h_23
    · exact absurd h_11 (by decide)
set_option maxHeartbeats 4000000 in
set_option maxRecDepth 100000 in
theorem met_X0_add_no {l : Launch} {D : va_G} {o : Nat} {a : Nat → Nat} {d : Nat → ClassId} {C : CS} {T : TS} {c x : Nat} {v : Int32} (hc : c < 4) (hx : x < 16) (hW : WC C) (hT : WT T) (hv : ¬ rivs T c x 1 = 0) : GMi l yX0_add (ws_ yX0_add cX0_add 5 (some .int)) (rmD 5) D (tysX d) (wX o a d C T) [.ref o, .int (nI c), .int (nI x), .int v] (wX o a d C T) (-2) := by
  refine GMi.of (by decide) (Nat.le_of_ble_eq_true rfl) ?_
  intro p e s m args below meth cd A ls K hr hlk hI hl
  have K : GC RX0 (tysX d) D A p s m args cd cX0_add 5 := K
  have hl : lv_has ls 5 [(0, .ref o), (1, .int (nI c)), (2, .int (nI x)), (3, .int v)] := hl
  obtain ⟨hE, hB, hml, hown, hts, hK, hA⟩ := id K
  refine lv_iload_n hE hB dX0_add_0 rfl (lv_at hl 1 rfl) ?_
  refine kX0_isCore K hI  (v := (nI 1)) (congrArg nI (isI_ok (by omega) (by decide))) hl.1 ⟨Nat.le_of_ble_eq_true rfl, Nat.le_of_ble_eq_true rfl⟩ (Nat.le_of_ble_eq_true rfl) ⟨Nat.zero_le _, Nat.zero_le _⟩ dX0_add_1 (fun H locs hI => ?_)
  refine n_if_eq (tgt := 14) hE hB (by omega) dX0_add_4 (by decide) (fun h_4 => ?_) (fun h_4 => ?_)
  · exact absurd h_4 (by decide)
  · refine lv_iload_n hE hB dX0_add_7 rfl (lv_at hl 2 rfl) ?_
    refine kX0_isCell K hI  (v := (nI 1)) (congrArg nI (isI_ok (by omega) (by decide))) hl.1 ⟨Nat.le_of_ble_eq_true rfl, Nat.le_of_ble_eq_true rfl⟩ (Nat.le_of_ble_eq_true rfl) ⟨Nat.zero_le _, Nat.zero_le _⟩ dX0_add_8 (fun H locs hI => ?_)
    refine n_if_ne (tgt := 16) hE hB (by omega) dX0_add_11 (by decide) (fun h_11 => ?_) (fun h_11 => ?_)
    · refine lv_aload_n hE hB dX0_add_16 rfl (lv_at hl 0 rfl) ?_
      refine lv_iload_n hE hB dX0_add_17 rfl (lv_at hl 1 rfl) ?_
      refine lv_iload_n hE hB dX0_add_18 rfl (lv_at hl 2 rfl) ?_
      refine lv_iconst (v := nI 1) hE hB dX0_add_19 (by decide) ?_
      refine kX0_rivalsOf K hI (by omega) (by omega) (by omega) hT rfl hl.1 ⟨Nat.le_of_ble_eq_true rfl, Nat.le_of_ble_eq_true rfl⟩ (Nat.le_of_ble_eq_true rfl) ⟨Nat.zero_le _, Nat.zero_le _⟩ dX0_add_20 (fun H locs hI => ?_)
      refine lv_if_eq (tgt := 29) hE hB dX0_add_23 (by decide) (fun h_23 => ?_) (fun h_23 => ?_)
      · exact absurd h_23 hv
      · refine lv_bipush (v := -2) hE hB dX0_add_26 (by decide) ?_
        exact g_iret K hr hlk hI rfl rfl dX0_add_28
    · exact absurd h_11 (by decide)
set_option maxHeartbeats 4000000 in
set_option maxRecDepth 100000 in
theorem met_X0_add {l : Launch} {D : va_G} {o : Nat} {a : Nat → Nat} {d : Nat → ClassId} {C : CS} {T : TS} {c x : Nat} {v : Int32} (hc : c < 4) (hx : x < 16) (hW : WC C) (hT : WT T) (hz : tL (ntR T c x) c ≠ 0 → bN (tW (ntR T c x) (c * 3 + tL (ntR T c x) c - 1)) x = 0 → tZ (ntR T c x) (c * 3 + tL (ntR T c x) c - 1) < 16) (hv : rivs T c x 1 = 0) : GMi l yX0_add (ws_ yX0_add cX0_add 5 (some .int)) (rmD 5) D (tysX d) (wX o a d C T) [.ref o, .int (nI c), .int (nI x), .int v] (wX o a d (stor (ftch C c x) c x (cD (ftch C c x) (lnO c x) + v)) (chT (ftch C c x) (ntR T c x) c x)) (nI 0) := by
  refine GMi.of (by decide) (Nat.le_of_ble_eq_true rfl) ?_
  intro p e s m args below meth cd A ls K hr hlk hI hl
  have K : GC RX0 (tysX d) D A p s m args cd cX0_add 5 := K
  have hl : lv_has ls 5 [(0, .ref o), (1, .int (nI c)), (2, .int (nI x)), (3, .int v)] := hl
  obtain ⟨hE, hB, hml, hown, hts, hK, hA⟩ := id K
  refine lv_iload_n hE hB dX0_add_0 rfl (lv_at hl 1 rfl) ?_
  refine kX0_isCore K hI  (v := (nI 1)) (congrArg nI (isI_ok (by omega) (by decide))) hl.1 ⟨Nat.le_of_ble_eq_true rfl, Nat.le_of_ble_eq_true rfl⟩ (Nat.le_of_ble_eq_true rfl) ⟨Nat.zero_le _, Nat.zero_le _⟩ dX0_add_1 (fun H locs hI => ?_)
  refine n_if_eq (tgt := 14) hE hB (by omega) dX0_add_4 (by decide) (fun h_4 => ?_) (fun h_4 => ?_)
  · exact absurd h_4 (by decide)
  · refine lv_iload_n hE hB dX0_add_7 rfl (lv_at hl 2 rfl) ?_
    refine kX0_isCell K hI  (v := (nI 1)) (congrArg nI (isI_ok (by omega) (by decide))) hl.1 ⟨Nat.le_of_ble_eq_true rfl, Nat.le_of_ble_eq_true rfl⟩ (Nat.le_of_ble_eq_true rfl) ⟨Nat.zero_le _, Nat.zero_le _⟩ dX0_add_8 (fun H locs hI => ?_)
    refine n_if_ne (tgt := 16) hE hB (by omega) dX0_add_11 (by decide) (fun h_11 => ?_) (fun h_11 => ?_)
    · refine lv_aload_n hE hB dX0_add_16 rfl (lv_at hl 0 rfl) ?_
      refine lv_iload_n hE hB dX0_add_17 rfl (lv_at hl 1 rfl) ?_
      refine lv_iload_n hE hB dX0_add_18 rfl (lv_at hl 2 rfl) ?_
      refine lv_iconst (v := nI 1) hE hB dX0_add_19 (by decide) ?_
      refine kX0_rivalsOf K hI (by omega) (by omega) (by omega) hT rfl hl.1 ⟨Nat.le_of_ble_eq_true rfl, Nat.le_of_ble_eq_true rfl⟩ (Nat.le_of_ble_eq_true rfl) ⟨Nat.zero_le _, Nat.zero_le _⟩ dX0_add_20 (fun H locs hI => ?_)
      refine lv_if_eq (tgt := 29) hE hB dX0_add_23 (by decide) (fun h_23 => ?_) (fun h_23 => ?_)
      · refine lv_aload_n hE hB dX0_add_29 rfl (lv_at hl 0 rfl) ?_
        refine lv_iload_n hE hB dX0_add_30 rfl (lv_at hl 1 rfl) ?_
        refine lv_iload_n hE hB dX0_add_31 rfl (lv_at hl 2 rfl) ?_
        refine kX0_fetch K hI (by omega) (by omega) hW hl.1 ⟨Nat.le_of_ble_eq_true rfl, Nat.le_of_ble_eq_true rfl⟩ (Nat.le_of_ble_eq_true rfl) ⟨Nat.zero_le _, Nat.zero_le _⟩ dX0_add_32 (fun H locs hI => ?_)
        refine lv_aload_n hE hB dX0_add_35 rfl (lv_at hl 0 rfl) ?_
        refine lv_iload_n hE hB dX0_add_36 rfl (lv_at hl 1 rfl) ?_
        refine lv_iload_n hE hB dX0_add_37 rfl (lv_at hl 2 rfl) ?_
        refine kX0_noteRead K hI (by omega) hT hl.1 ⟨Nat.le_of_ble_eq_true rfl, Nat.le_of_ble_eq_true rfl⟩ (Nat.le_of_ble_eq_true rfl) ⟨Nat.zero_le _, Nat.zero_le _⟩ dX0_add_38 (fun H locs hI => ?_)
        refine lv_aload_n hE hB dX0_add_41 rfl (lv_at hl 0 rfl) ?_
        refine xg3 hE hB hts hown hK hI dX0_add_42 ?_
        refine lv_iload_n hE hB dX0_add_45 rfl (lv_at hl 1 rfl) ?_
        refine lv_iload_n hE hB dX0_add_46 rfl (lv_at hl 2 rfl) ?_
        refine kX0_lineOf K hI (by omega) rfl hl.1 ⟨Nat.le_of_ble_eq_true rfl, Nat.le_of_ble_eq_true rfl⟩ (Nat.le_of_ble_eq_true rfl) ⟨Nat.zero_le _, Nat.zero_le _⟩ dX0_add_47 (fun H locs hI => ?_)
        refine xl3 hE hB hK hI (i := (lnO c x)) (lnO_lt hc x) dX0_add_50 ?_
        refine lv_istore (lv' := [(4, .int (cD (ftch C c x) (lnO c x))), (0, .ref o), (1, .int (nI c)), (2, .int (nI x)), (3, .int v)]) hE hB dX0_add_51 hl (by decide) rfl (fun ls hl => ?_)
        refine lv_aload_n hE hB dX0_add_53 rfl (lv_at hl 1 rfl) ?_
        refine lv_iload_n hE hB dX0_add_54 rfl (lv_at hl 2 rfl) ?_
        refine lv_iload_n hE hB dX0_add_55 rfl (lv_at hl 3 rfl) ?_
        refine lv_iload hE hB dX0_add_56 (lv_at hl 0 rfl) ?_
        refine lv_iload_n hE hB dX0_add_58 rfl (lv_at hl 4 rfl) ?_
        refine lv_iadd hE hB dX0_add_59 ?_
        refine kX0_change K hI hc hx (WC_ftch hW _ (by omega)) (WT_ntR hT _ _) hz hl.1 ⟨Nat.le_of_ble_eq_true rfl, Nat.le_of_ble_eq_true rfl⟩ (Nat.le_of_ble_eq_true rfl) ⟨Nat.zero_le _, Nat.zero_le _⟩ dX0_add_60 (fun H locs hI => ?_)
        refine lv_iconst (v := nI 0) hE hB dX0_add_63 (by decide) ?_
        exact g_iret K hr hlk hI rfl rfl dX0_add_64
      · exact absurd hv h_23
    · exact absurd h_11 (by decide)
set_option maxHeartbeats 4000000 in
set_option maxRecDepth 100000 in
theorem met_X0_end_z {l : Launch} {D : va_G} {o : Nat} {a : Nat → Nat} {d : Nat → ClassId} {C : CS} {T : TS} {c : Nat} (hc : c < 4) (h0 : tL T c = 0) : GMi l yX0_end (ws_ yX0_end cX0_end 6 (some .int)) (rmD 1) D (tysX d) (wX o a d C T) [.ref o, .int (nI c)] (wX o a d C T) (-1) := by
  refine GMi.of (by decide) (Nat.le_of_ble_eq_true rfl) ?_
  intro p e s m args below meth cd A ls K hr hlk hI hl
  have K : GC RX0 (tysX d) D A p s m args cd cX0_end 6 := K
  have hl : lv_has ls 6 [(0, .ref o), (1, .int (nI c))] := hl
  obtain ⟨hE, hB, hml, hown, hts, hK, hA⟩ := id K
  refine lv_iload_n hE hB dX0_end_0 rfl (lv_at hl 1 rfl) ?_
  refine kX0_isCore K hI  (v := (nI 1)) (congrArg nI (isI_ok (by omega) (by decide))) hl.1 ⟨Nat.le_of_ble_eq_true rfl, Nat.le_of_ble_eq_true rfl⟩ (Nat.le_of_ble_eq_true rfl) ⟨Nat.zero_le _, Nat.zero_le _⟩ dX0_end_1 (fun H locs hI => ?_)
  refine n_if_eq (tgt := 16) hE hB (by omega) dX0_end_4 (by decide) (fun h_4 => ?_) (fun h_4 => ?_)
  · exact absurd h_4 (by decide)
  · refine lv_aload_n hE hB dX0_end_7 rfl (lv_at hl 0 rfl) ?_
    refine xg4 hE hB hts hown hK hI dX0_end_8 ?_
    refine lv_iload_n hE hB dX0_end_11 rfl (lv_at hl 1 rfl) ?_
    refine xl4 hE hB hK hI (i := c) (by omega) dX0_end_12 ?_
    refine n_if_ne (tgt := 18) hE hB (by omega) dX0_end_13 (by decide) (fun h_13 => ?_) (fun h_13 => ?_)
    · exact absurd h0 h_13
    · refine lv_iconst (v := -1) hE hB dX0_end_16 (by decide) ?_
      exact g_iret K hr hlk hI rfl rfl dX0_end_17
set_option maxHeartbeats 4000000 in
set_option maxRecDepth 100000 in
theorem lpX_end {p : Program} {l : Launch} {e : Env} {s : State} {m : MethodId} {args : Array Value} {below : List Frame} {meth : Method} {cd : Code} {D : va_G} {A : Nat → Prop} {o : Nat} {a : Nat → Nat} {d : Nat → ClassId} (K : GC RX0 (tysX d) D A p s m args cd cX0_end 6) (hr : meth.sig.returnType = some .int) (hlk : meth.locks = false) {wz : va_W} {r : Int32} {C : CS} {c q : Nat} (hc : c < 4) (hq1 : 1 ≤ q) (hq : q < 12) : ∀ (n k : Nat) (T : TS) (H : Heap) (locs : List Loc) (ls : Array Slot), k + n = tZ T q → WT T → tZ T (q - 1) = cnt (tW T (q - 1)) → wX o a d C (enL q n k T) = wz → nI (tL (enL q n k T) c) = r → GI D A s.heap (wX o a d C T) H locs → lv_has ls 6 [(0, .ref o), (1, .int (nI c)), (2, .int (nI q)), (3, .int (nI (q - 1))), (4, .int (nI k))] → W p l e (rmD 1) s m args below meth cd H locs 0 0 (MQ below (gQi D (tysX d) A wz r) args s 0 0 A) (F0 m 71 ls []) := by
  obtain ⟨hE, hB, hml, hown, hts, hK, hA⟩ := id K
  intro n
  induction n with
  | zero =>
    intro k T H locs ls hkn hT hcn hz hres hI hl
    have hlv := hT.1 c hc
    have hzq := hT.2.1 q hq
    refine lv_iload hE hB dX0_end_71 (lv_at hl 4 rfl) ?_
    refine lv_aload_n hE hB dX0_end_73 rfl (lv_at hl 0 rfl) ?_
    refine xg7 hE hB hts hown hK hI dX0_end_74 ?_
    refine lv_iload_n hE hB dX0_end_77 rfl (lv_at hl 2 rfl) ?_
    refine xl7 hE hB hK hI (i := q) (by omega) dX0_end_78 ?_
    refine n_ic_ge (tgt := 135) hE hB (by omega) (by omega) dX0_end_79 (by decide) (fun h_79 => ?_) (fun h_79 => ?_)
    · refine lv_aload_n hE hB dX0_end_135 rfl (lv_at hl 0 rfl) ?_
      refine xg4 hE hB hts hown hK hI dX0_end_136 ?_
      refine lv_iload_n hE hB dX0_end_139 rfl (lv_at hl 1 rfl) ?_
      refine xl4 hE hB hK hI (i := c) (by omega) dX0_end_140 ?_
      exact g_iret K hr hlk hI (by rw [← hz]; rfl) (by rw [← hres]; rfl) dX0_end_141
    · omega
  | succ n ih =>
    intro k T H locs ls hkn hT hcn hz hres hI hl
    have hlv := hT.1 c hc
    have hzq := hT.2.1 q hq
    refine lv_iload hE hB dX0_end_71 (lv_at hl 4 rfl) ?_
    refine lv_aload_n hE hB dX0_end_73 rfl (lv_at hl 0 rfl) ?_
    refine xg7 hE hB hts hown hK hI dX0_end_74 ?_
    refine lv_iload_n hE hB dX0_end_77 rfl (lv_at hl 2 rfl) ?_
    refine xl7 hE hB hK hI (i := q) (by omega) dX0_end_78 ?_
    refine n_ic_ge (tgt := 135) hE hB (by omega) (by omega) dX0_end_79 (by decide) (fun h_79 => ?_) (fun h_79 => ?_)
    · omega
    · refine lv_aload_n hE hB dX0_end_82 rfl (lv_at hl 0 rfl) ?_
      refine xg8 hE hB hts hown hK hI dX0_end_83 ?_
      refine lv_iload_n hE hB dX0_end_86 rfl (lv_at hl 2 rfl) ?_
      refine lv_bipush (v := nI 16) hE hB dX0_end_87 (by decide) ?_
      refine n_mul hE hB dX0_end_89 ?_
      refine lv_iload hE hB dX0_end_90 (lv_at hl 4 rfl) ?_
      refine n_add hE hB dX0_end_92 ?_
      refine xl8 hE hB hK hI (i := ((q * 16) + k)) (by omega) dX0_end_93 ?_
      have hx5 := hT.2.2 (q * 16 + k) (by omega)
      refine lv_istore (lv' := [(5, .int (nI (tC T ((q * 16) + k)))), (0, .ref o), (1, .int (nI c)), (2, .int (nI q)), (3, .int (nI (q - 1))), (4, .int (nI k))]) hE hB dX0_end_94 hl (by decide) rfl (fun ls hl => ?_)
      refine lv_aload_n hE hB dX0_end_96 rfl (lv_at hl 1 rfl) ?_
      refine xg6 hE hB hts hown hK hI dX0_end_97 ?_
      refine lv_iload_n hE hB dX0_end_100 rfl (lv_at hl 4 rfl) ?_
      refine xl6 hE hB hK hI (i := (q - 1)) (by omega) dX0_end_101 ?_
      refine lv_iload hE hB dX0_end_102 (lv_at hl 0 rfl) ?_
      refine lv_ishr hE hB dX0_end_104 ?_
      refine lv_iconst (v := nI 1) hE hB dX0_end_105 (by decide) ?_
      refine n_bit hE hB (by omega) dX0_end_106 ?_
      refine n_if_ne (tgt := 129) hE hB (Nat.lt_of_le_of_lt (bN_le _ _) (by decide)) dX0_end_107 (by decide) (fun h_107 => ?_) (fun h_107 => ?_)
      · refine lv_iinc (v := (nI (k + 1))) (lv' := [(4, .int (nI (k + 1))), (5, .int (nI (tC T ((q * 16) + k)))), (0, .ref o), (1, .int (nI c)), (2, .int (nI q)), (3, .int (nI (q - 1)))]) hE hB dX0_end_129 hl (k := 5) rfl (nI_1 _) (by decide) rfl (fun ls hl => ?_)
        refine lv_goto (tgt := 71) hE hB dX0_end_132 (by decide) ?_
        exact ih (k + 1) T H locs ls (by omega) hT hcn (by rw [← hz]; simp [enL, h_79, h_107]) (by rw [← hres]; simp [enL, h_79, h_107]) hI (lv_sub hl [2, 3, 4, 5, 0] rfl)
      · refine lv_aload_n hE hB dX0_end_110 rfl (lv_at hl 1 rfl) ?_
        refine lv_iload_n hE hB dX0_end_111 rfl (lv_at hl 4 rfl) ?_
        refine lv_iload hE hB dX0_end_112 (lv_at hl 0 rfl) ?_
        refine lv_aload_n hE hB dX0_end_114 rfl (lv_at hl 1 rfl) ?_
        refine xg9 hE hB hts hown hK hI dX0_end_115 ?_
        refine lv_iload_n hE hB dX0_end_118 rfl (lv_at hl 3 rfl) ?_
        refine lv_bipush (v := nI 16) hE hB dX0_end_119 (by decide) ?_
        refine n_mul hE hB dX0_end_121 ?_
        refine lv_iload hE hB dX0_end_122 (lv_at hl 5 rfl) ?_
        refine n_add hE hB dX0_end_124 ?_
        refine xl9 hE hB hK hI (i := ((q * 16) + k)) (by omega) dX0_end_125 ?_
        refine kX0_log K hI (by omega) hx5 (by rw [hcn]; exact cnt_lt hx5 h_107) hl.1 ⟨Nat.le_of_ble_eq_true rfl, Nat.le_of_ble_eq_true rfl⟩ (Nat.le_of_ble_eq_true rfl) ⟨Nat.zero_le _, Nat.zero_le _⟩ dX0_end_126 (fun H locs hI => ?_)
        refine lv_iinc (v := (nI (k + 1))) (lv' := [(4, .int (nI (k + 1))), (5, .int (nI (tC T ((q * 16) + k)))), (0, .ref o), (1, .int (nI c)), (2, .int (nI q)), (3, .int (nI (q - 1)))]) hE hB dX0_end_129 hl (k := 5) rfl (nI_1 _) (by decide) rfl (fun ls hl => ?_)
        refine lv_goto (tgt := 71) hE hB dX0_end_132 (by decide) ?_
        exact ih (k + 1) (lgT T (q - 1) (tC T (q * 16 + k)) (tO T (q * 16 + k))) H locs ls (by show k + 1 + n = upN (tZ T) (q - 1) _ q; rw [upN_n (by omega)]; omega) (WT_lgT hT (by rw [hcn]; exact cnt_lt hx5 h_107) hx5 _) (by show upN (tZ T) (q - 1) _ (q - 1) = cnt (upd (tW T) (q - 1) _ (q - 1)); rw [upN_s, pk_us, cnt_add hx5 h_107, hcn]) (by rw [← hz]; simp [enL, h_79, h_107]) (by rw [← hres]; simp [enL, h_79, h_107]) hI (lv_sub hl [2, 3, 4, 5, 0] rfl)
set_option maxHeartbeats 4000000 in
set_option maxRecDepth 100000 in
theorem met_X0_end {l : Launch} {D : va_G} {o : Nat} {a : Nat → Nat} {d : Nat → ClassId} {C : CS} {T : TS} {c : Nat} (hc : c < 4) (hT : WT T) (h0 : tL T c ≠ 0) (hz : 2 ≤ tL T c → tZ T (c * 3 + (tL T c - 1) - 1) = cnt (tW T (c * 3 + (tL T c - 1) - 1))) : GMi l yX0_end (ws_ yX0_end cX0_end 6 (some .int)) (rmD 1) D (tysX d) (wX o a d C T) [.ref o, .int (nI c)] (wX o a d C (enT T c)) (nI (tL (enT T c) c)) := by
  refine GMi.of (by decide) (Nat.le_of_ble_eq_true rfl) ?_
  intro p e s m args below meth cd A ls K hr hlk hI hl
  have K : GC RX0 (tysX d) D A p s m args cd cX0_end 6 := K
  have hl : lv_has ls 6 [(0, .ref o), (1, .int (nI c))] := hl
  obtain ⟨hE, hB, hml, hown, hts, hK, hA⟩ := id K
  have hlv := hT.1 c hc
  have hl1 : tL (udT T c) c = tL T c - 1 := upN_s
  refine lv_iload_n hE hB dX0_end_0 rfl (lv_at hl 1 rfl) ?_
  refine kX0_isCore K hI  (v := (nI 1)) (congrArg nI (isI_ok (by omega) (by decide))) hl.1 ⟨Nat.le_of_ble_eq_true rfl, Nat.le_of_ble_eq_true rfl⟩ (Nat.le_of_ble_eq_true rfl) ⟨Nat.zero_le _, Nat.zero_le _⟩ dX0_end_1 (fun H locs hI => ?_)
  refine n_if_eq (tgt := 16) hE hB (by omega) dX0_end_4 (by decide) (fun h_4 => ?_) (fun h_4 => ?_)
  · exact absurd h_4 (by decide)
  · refine lv_aload_n hE hB dX0_end_7 rfl (lv_at hl 0 rfl) ?_
    refine xg4 hE hB hts hown hK hI dX0_end_8 ?_
    refine lv_iload_n hE hB dX0_end_11 rfl (lv_at hl 1 rfl) ?_
    refine xl4 hE hB hK hI (i := c) (by omega) dX0_end_12 ?_
    refine n_if_ne (tgt := 18) hE hB (by omega) dX0_end_13 (by decide) (fun h_13 => ?_) (fun h_13 => ?_)
    · refine lv_aload_n hE hB dX0_end_18 rfl (lv_at hl 0 rfl) ?_
      refine xg4 hE hB hts hown hK hI dX0_end_19 ?_
      refine lv_iload_n hE hB dX0_end_22 rfl (lv_at hl 1 rfl) ?_
      refine lv_dup2_11 hE hB dX0_end_23 rfl rfl ?_
      refine xl4 hE hB hK hI (i := c) (by omega) dX0_end_24 ?_
      refine lv_iconst (v := nI 1) hE hB dX0_end_25 (by decide) ?_
      refine n_sub hE hB (by omega) dX0_end_26 ?_
      refine n_i2b hE hB (by omega) dX0_end_27 ?_
      refine xs4 hE hB hK hI (i := c) (v := ((tL T c) - 1)) (by omega) (by omega) dX0_end_28 (fun H locs hI => ?_)
      have hI : GI D A s.heap (wX o a d C (udT T c)) H locs := hI
      refine lv_aload_n hE hB dX0_end_29 rfl (lv_at hl 0 rfl) ?_
      refine xg4 hE hB hts hown hK hI dX0_end_30 ?_
      refine lv_iload_n hE hB dX0_end_33 rfl (lv_at hl 1 rfl) ?_
      refine xl4 hE hB hK hI (i := c) (by omega) dX0_end_34 ?_
      refine n_if_le (tgt := 135) hE hB (by omega) dX0_end_35 (by decide) (fun h_35 => ?_) (fun h_35 => ?_)
      · refine lv_aload_n hE hB dX0_end_135 rfl (lv_at hl 0 rfl) ?_
        refine xg4 hE hB hts hown hK hI dX0_end_136 ?_
        refine lv_iload_n hE hB dX0_end_139 rfl (lv_at hl 1 rfl) ?_
        refine xl4 hE hB hK hI (i := c) (by omega) dX0_end_140 ?_
        exact g_iret K hr hlk hI (by simp [enT, h_4, h_13, h_35]) (by simp [enT, h_4, h_13, h_35]) dX0_end_141
      · refine lv_iload_n hE hB dX0_end_38 rfl (lv_at hl 1 rfl) ?_
        refine lv_iconst (v := nI 3) hE hB dX0_end_39 (by decide) ?_
        refine n_mul hE hB dX0_end_40 ?_
        refine lv_aload_n hE hB dX0_end_41 rfl (lv_at hl 0 rfl) ?_
        refine xg4 hE hB hts hown hK hI dX0_end_42 ?_
        refine lv_iload_n hE hB dX0_end_45 rfl (lv_at hl 1 rfl) ?_
        refine xl4 hE hB hK hI (i := c) (by omega) dX0_end_46 ?_
        refine n_add hE hB dX0_end_47 ?_
        refine lv_istore_n (lv' := [(2, .int (nI ((c * 3) + (tL (udT T c) c)))), (0, .ref o), (1, .int (nI c))]) hE hB dX0_end_48 rfl hl (by decide) rfl (fun ls hl => ?_)
        refine lv_iload_n hE hB dX0_end_49 rfl (lv_at hl 0 rfl) ?_
        refine lv_iconst (v := nI 1) hE hB dX0_end_50 (by decide) ?_
        refine n_sub hE hB (by omega) dX0_end_51 ?_
        refine lv_istore_n (lv' := [(3, .int (nI (((c * 3) + (tL (udT T c) c)) - 1))), (2, .int (nI ((c * 3) + (tL (udT T c) c)))), (0, .ref o), (1, .int (nI c))]) hE hB dX0_end_52 rfl hl (by decide) rfl (fun ls hl => ?_)
        refine lv_aload_n hE hB dX0_end_53 rfl (lv_at hl 2 rfl) ?_
        refine xg5 hE hB hts hown hK hI dX0_end_54 ?_
        refine lv_iload_n hE hB dX0_end_57 rfl (lv_at hl 0 rfl) ?_
        refine lv_dup2_11 hE hB dX0_end_58 rfl rfl ?_
        refine xl5 hE hB hK hI (i := (((c * 3) + (tL (udT T c) c)) - 1)) (by omega) dX0_end_59 ?_
        refine lv_aload_n hE hB dX0_end_60 rfl (lv_at hl 2 rfl) ?_
        refine xg5 hE hB hts hown hK hI dX0_end_61 ?_
        refine lv_iload_n hE hB dX0_end_64 rfl (lv_at hl 1 rfl) ?_
        refine xl5 hE hB hK hI (i := ((c * 3) + (tL (udT T c) c))) (by omega) dX0_end_65 ?_
        refine lv_ior hE hB dX0_end_66 ?_
        refine xs5 hE hB hK hI (i := (((c * 3) + (tL (udT T c) c)) - 1)) (v := ((tR (udT T c) (((c * 3) + (tL (udT T c) c)) - 1)) ||| (tR (udT T c) ((c * 3) + (tL (udT T c) c))))) (by omega) dX0_end_67 (fun H locs hI => ?_)
        have hI : GI D A s.heap (wX o a d C (enA (udT T c) c)) H locs := hI
        refine lv_iconst (v := nI 0) hE hB dX0_end_68 (by decide) ?_
        refine lv_istore (lv' := [(4, .int (nI 0)), (3, .int (nI (((c * 3) + (tL (udT T c) c)) - 1))), (2, .int (nI ((c * 3) + (tL (udT T c) c)))), (0, .ref o), (1, .int (nI c))]) hE hB dX0_end_69 hl (by decide) rfl (fun ls hl => ?_)
        exact lpX_end K hr hlk hc (by omega) (by omega) (tZ T (c * 3 + tL (udT T c) c)) 0 (enA (udT T c) c) _ _ ls (Nat.zero_add _) (WT_enA (WT_udT hT c hc) c) (by show tZ T (c * 3 + tL (udT T c) c - 1) = cnt (tW T (c * 3 + tL (udT T c) c - 1)); rw [hl1]; exact hz (by omega)) (by simp [enT, h_35]) (by simp [enT, h_35]) hI (lv_sub hl [3, 4, 2, 1, 0] rfl)
    · exact absurd h_13 h0
set_option maxHeartbeats 4000000 in
set_option maxRecDepth 100000 in
theorem met_X0_giveUp_z {l : Launch} {D : va_G} {o : Nat} {a : Nat → Nat} {d : Nat → ClassId} {C : CS} {T : TS} {c : Nat} (hc : c < 4) (h0 : tL T c = 0) : GMi l yX0_giveUp (ws_ yX0_giveUp cX0_giveUp 2 (some .int)) (rmD 5) D (tysX d) (wX o a d C T) [.ref o, .int (nI c)] (wX o a d C T) (-1) := by
  refine GMi.of (by decide) (Nat.le_of_ble_eq_true rfl) ?_
  intro p e s m args below meth cd A ls K hr hlk hI hl
  have K : GC RX0 (tysX d) D A p s m args cd cX0_giveUp 2 := K
  have hl : lv_has ls 2 [(0, .ref o), (1, .int (nI c))] := hl
  obtain ⟨hE, hB, hml, hown, hts, hK, hA⟩ := id K
  refine lv_iload_n hE hB dX0_giveUp_0 rfl (lv_at hl 1 rfl) ?_
  refine kX0_isCore K hI  (v := (nI 1)) (congrArg nI (isI_ok (by omega) (by decide))) hl.1 ⟨Nat.le_of_ble_eq_true rfl, Nat.le_of_ble_eq_true rfl⟩ (Nat.le_of_ble_eq_true rfl) ⟨Nat.zero_le _, Nat.zero_le _⟩ dX0_giveUp_1 (fun H locs hI => ?_)
  refine n_if_eq (tgt := 16) hE hB (by omega) dX0_giveUp_4 (by decide) (fun h_4 => ?_) (fun h_4 => ?_)
  · exact absurd h_4 (by decide)
  · refine lv_aload_n hE hB dX0_giveUp_7 rfl (lv_at hl 0 rfl) ?_
    refine xg4 hE hB hts hown hK hI dX0_giveUp_8 ?_
    refine lv_iload_n hE hB dX0_giveUp_11 rfl (lv_at hl 1 rfl) ?_
    refine xl4 hE hB hK hI (i := c) (by omega) dX0_giveUp_12 ?_
    refine n_if_ne (tgt := 18) hE hB (by omega) dX0_giveUp_13 (by decide) (fun h_13 => ?_) (fun h_13 => ?_)
    · exact absurd h0 h_13
    · refine lv_iconst (v := -1) hE hB dX0_giveUp_16 (by decide) ?_
      exact g_iret K hr hlk hI rfl rfl dX0_giveUp_17
set_option maxHeartbeats 4000000 in
set_option maxRecDepth 100000 in
theorem met_X0_giveUp {l : Launch} {D : va_G} {o : Nat} {a : Nat → Nat} {d : Nat → ClassId} {C : CS} {T : TS} {c : Nat} (hc : c < 4) (hW : WC C) (hT : WT T) (h0 : tL T c ≠ 0) : GMi l yX0_giveUp (ws_ yX0_giveUp cX0_giveUp 2 (some .int)) (rmD 5) D (tysX d) (wX o a d C T) [.ref o, .int (nI c)] (wX o a d (udC C T c) (udT T c)) (nI (tL T c - 1)) := by
  refine GMi.of (by decide) (Nat.le_of_ble_eq_true rfl) ?_
  intro p e s m args below meth cd A ls K hr hlk hI hl
  have K : GC RX0 (tysX d) D A p s m args cd cX0_giveUp 2 := K
  have hl : lv_has ls 2 [(0, .ref o), (1, .int (nI c))] := hl
  obtain ⟨hE, hB, hml, hown, hts, hK, hA⟩ := id K
  have hlv := hT.1 c hc
  refine lv_iload_n hE hB dX0_giveUp_0 rfl (lv_at hl 1 rfl) ?_
  refine kX0_isCore K hI  (v := (nI 1)) (congrArg nI (isI_ok (by omega) (by decide))) hl.1 ⟨Nat.le_of_ble_eq_true rfl, Nat.le_of_ble_eq_true rfl⟩ (Nat.le_of_ble_eq_true rfl) ⟨Nat.zero_le _, Nat.zero_le _⟩ dX0_giveUp_1 (fun H locs hI => ?_)
  refine n_if_eq (tgt := 16) hE hB (by omega) dX0_giveUp_4 (by decide) (fun h_4 => ?_) (fun h_4 => ?_)
  · exact absurd h_4 (by decide)
  · refine lv_aload_n hE hB dX0_giveUp_7 rfl (lv_at hl 0 rfl) ?_
    refine xg4 hE hB hts hown hK hI dX0_giveUp_8 ?_
    refine lv_iload_n hE hB dX0_giveUp_11 rfl (lv_at hl 1 rfl) ?_
    refine xl4 hE hB hK hI (i := c) (by omega) dX0_giveUp_12 ?_
    refine n_if_ne (tgt := 18) hE hB (by omega) dX0_giveUp_13 (by decide) (fun h_13 => ?_) (fun h_13 => ?_)
    · refine lv_aload_n hE hB dX0_giveUp_18 rfl (lv_at hl 0 rfl) ?_
      refine lv_iload_n hE hB dX0_giveUp_19 rfl (lv_at hl 1 rfl) ?_
      refine kX0_undo K hI hc hW hT h0 hl.1 ⟨Nat.le_of_ble_eq_true rfl, Nat.le_of_ble_eq_true rfl⟩ (Nat.le_of_ble_eq_true rfl) ⟨Nat.zero_le _, Nat.zero_le _⟩ dX0_giveUp_20 (fun H locs hI => ?_)
      refine lv_aload_n hE hB dX0_giveUp_23 rfl (lv_at hl 0 rfl) ?_
      refine xg4 hE hB hts hown hK hI dX0_giveUp_24 ?_
      refine lv_iload_n hE hB dX0_giveUp_27 rfl (lv_at hl 1 rfl) ?_
      refine xl4 hE hB hK hI (i := c) (by omega) dX0_giveUp_28 ?_
      exact g_iret K hr hlk hI rfl (congrArg nI upN_s) dX0_giveUp_29
    · exact absurd h_13 h0
set_option maxHeartbeats 4000000 in
set_option maxRecDepth 100000 in
theorem lpX_giveAllUp {p : Program} {l : Launch} {e : Env} {s : State} {m : MethodId} {args : Array Value} {below : List Frame} {meth : Method} {cd : Code} {D : va_G} {A : Nat → Prop} {o : Nat} {a : Nat → Nat} {d : Nat → ClassId} (K : GC RX0 (tysX d) D A p s m args cd cX0_giveAllUp 4) (hr : meth.sig.returnType = some .int) (hlk : meth.locks = false) {wz : va_W} {r : Int32} {c q : Nat} (hc : c < 4) (hq : q ≤ 3) (hres : nI q = r) : ∀ (n k : Nat) (C : CS) (T : TS) (H : Heap) (locs : List Loc) (ls : Array Slot), k + n = q → tL T c = n → WC C → WT T → wX o a d (gaL c n C T).1 (gaL c n C T).2 = wz → GI D A s.heap (wX o a d C T) H locs → lv_has ls 4 [(0, .ref o), (1, .int (nI c)), (2, .int (nI q)), (3, .int (nI k))] → W p l e (rmD 5) s m args below meth cd H locs 0 0 (MQ below (gQi D (tysX d) A wz r) args s 0 0 A) (F0 m 18 ls []) := by
  obtain ⟨hE, hB, hml, hown, hts, hK, hA⟩ := id K
  intro n
  induction n with
  | zero =>
    intro k C T H locs ls hkn hln hW hT hz hI hl
    refine lv_iload_n hE hB dX0_giveAllUp_18 rfl (lv_at hl 3 rfl) ?_
    refine lv_iload_n hE hB dX0_giveAllUp_19 rfl (lv_at hl 2 rfl) ?_
    refine n_ic_ge (tgt := 34) hE hB (by omega) (by omega) dX0_giveAllUp_20 (by decide) (fun h_20 => ?_) (fun h_20 => ?_)
    · refine lv_iload_n hE hB dX0_giveAllUp_34 rfl (lv_at hl 2 rfl) ?_
      exact g_iret K hr hlk hI hz hres dX0_giveAllUp_35
    · omega
  | succ n ih =>
    intro k C T H locs ls hkn hln hW hT hz hI hl
    have hlv := hT.1 c hc
    refine lv_iload_n hE hB dX0_giveAllUp_18 rfl (lv_at hl 3 rfl) ?_
    refine lv_iload_n hE hB dX0_giveAllUp_19 rfl (lv_at hl 2 rfl) ?_
    refine n_ic_ge (tgt := 34) hE hB (by omega) (by omega) dX0_giveAllUp_20 (by decide) (fun h_20 => ?_) (fun h_20 => ?_)
    · omega
    · refine lv_aload_n hE hB dX0_giveAllUp_23 rfl (lv_at hl 0 rfl) ?_
      refine lv_iload_n hE hB dX0_giveAllUp_24 rfl (lv_at hl 1 rfl) ?_
      refine kX0_undo K hI hc hW hT (by omega) hl.1 ⟨Nat.le_of_ble_eq_true rfl, Nat.le_of_ble_eq_true rfl⟩ (Nat.le_of_ble_eq_true rfl) ⟨Nat.zero_le _, Nat.zero_le _⟩ dX0_giveAllUp_25 (fun H locs hI => ?_)
      refine lv_iinc (v := (nI (k + 1))) (lv' := [(3, .int (nI (k + 1))), (0, .ref o), (1, .int (nI c)), (2, .int (nI q))]) hE hB dX0_giveAllUp_28 hl (k := 3) rfl (nI_1 _) (by decide) rfl (fun ls hl => ?_)
      refine lv_goto (tgt := 18) hE hB dX0_giveAllUp_31 (by decide) ?_
      exact ih (k + 1) (udC C T c) (udT T c) H locs ls (by omega) (by show upN (tL T) c (tL T c - 1) c = n; rw [upN_s]; omega) (WC_udL hT (by omega) _ _ (hT.2.1 _ (by omega)) hW) (WT_udT hT c hc) hz hI (lv_sub hl [1, 2, 3, 0] rfl)
set_option maxHeartbeats 4000000 in
set_option maxRecDepth 100000 in
theorem met_X0_giveAllUp {l : Launch} {D : va_G} {o : Nat} {a : Nat → Nat} {d : Nat → ClassId} {C : CS} {T : TS} {c : Nat} (hc : c < 4) (hW : WC C) (hT : WT T) : GMi l yX0_giveAllUp (ws_ yX0_giveAllUp cX0_giveAllUp 4 (some .int)) (rmD 5) D (tysX d) (wX o a d C T) [.ref o, .int (nI c)] (wX o a d ((gaL c (tL T c) C T).1) ((gaL c (tL T c) C T).2)) (nI (tL T c)) := by
  refine GMi.of (by decide) (Nat.le_of_ble_eq_true rfl) ?_
  intro p e s m args below meth cd A ls K hr hlk hI hl
  have K : GC RX0 (tysX d) D A p s m args cd cX0_giveAllUp 4 := K
  have hl : lv_has ls 4 [(0, .ref o), (1, .int (nI c))] := hl
  obtain ⟨hE, hB, hml, hown, hts, hK, hA⟩ := id K
  have hlv := hT.1 c hc
  refine lv_iload_n hE hB dX0_giveAllUp_0 rfl (lv_at hl 1 rfl) ?_
  refine kX0_isCore K hI  (v := (nI 1)) (congrArg nI (isI_ok (by omega) (by decide))) hl.1 ⟨Nat.le_of_ble_eq_true rfl, Nat.le_of_ble_eq_true rfl⟩ (Nat.le_of_ble_eq_true rfl) ⟨Nat.zero_le _, Nat.zero_le _⟩ dX0_giveAllUp_1 (fun H locs hI => ?_)
  refine n_if_ne (tgt := 9) hE hB (by omega) dX0_giveAllUp_4 (by decide) (fun h_4 => ?_) (fun h_4 => ?_)
  · refine lv_aload_n hE hB dX0_giveAllUp_9 rfl (lv_at hl 0 rfl) ?_
    refine xg4 hE hB hts hown hK hI dX0_giveAllUp_10 ?_
    refine lv_iload_n hE hB dX0_giveAllUp_13 rfl (lv_at hl 1 rfl) ?_
    refine xl4 hE hB hK hI (i := c) (by omega) dX0_giveAllUp_14 ?_
    refine lv_istore_n (lv' := [(2, .int (nI (tL T c))), (0, .ref o), (1, .int (nI c))]) hE hB dX0_giveAllUp_15 rfl hl (by decide) rfl (fun ls hl => ?_)
    refine lv_iconst (v := nI 0) hE hB dX0_giveAllUp_16 (by decide) ?_
    refine lv_istore_n (lv' := [(3, .int (nI 0)), (2, .int (nI (tL T c))), (0, .ref o), (1, .int (nI c))]) hE hB dX0_giveAllUp_17 rfl hl (by decide) rfl (fun ls hl => ?_)
    exact lpX_giveAllUp K hr hlk hc hlv rfl (tL T c) 0 C T _ _ ls (Nat.zero_add _) rfl hW hT rfl hI (lv_sub hl [2, 3, 1, 0] rfl)
  · exact absurd h_4 (by decide)
set_option maxHeartbeats 4000000 in
set_option maxRecDepth 100000 in
theorem met_X0_level {l : Launch} {D : va_G} {o : Nat} {a : Nat → Nat} {d : Nat → ClassId} {C : CS} {T : TS} {c : Nat} (hc : c < 4) : GMi l yX0_level (ws_ yX0_level cX0_level 2 (some .int)) (rmD 1) D (tysX d) (wX o a d C T) [.ref o, .int (nI c)] (wX o a d C T) (nI (tL T c)) := by
  refine GMi.of (by decide) (Nat.le_of_ble_eq_true rfl) ?_
  intro p e s m args below meth cd A ls K hr hlk hI hl
  have K : GC RX0 (tysX d) D A p s m args cd cX0_level 2 := K
  have hl : lv_has ls 2 [(0, .ref o), (1, .int (nI c))] := hl
  obtain ⟨hE, hB, hml, hown, hts, hK, hA⟩ := id K
  refine lv_iload_n hE hB dX0_level_0 rfl (lv_at hl 1 rfl) ?_
  refine kX0_isCore K hI  (v := (nI 1)) (congrArg nI (isI_ok (by omega) (by decide))) hl.1 ⟨Nat.le_of_ble_eq_true rfl, Nat.le_of_ble_eq_true rfl⟩ (Nat.le_of_ble_eq_true rfl) ⟨Nat.zero_le _, Nat.zero_le _⟩ dX0_level_1 (fun H locs hI => ?_)
  refine n_if_eq (tgt := 16) hE hB (by omega) dX0_level_4 (by decide) (fun h_4 => ?_) (fun h_4 => ?_)
  · exact absurd h_4 (by decide)
  · refine lv_aload_n hE hB dX0_level_7 rfl (lv_at hl 0 rfl) ?_
    refine xg4 hE hB hts hown hK hI dX0_level_8 ?_
    refine lv_iload_n hE hB dX0_level_11 rfl (lv_at hl 1 rfl) ?_
    refine xl4 hE hB hK hI (i := c) (by omega) dX0_level_12 ?_
    refine lv_goto (tgt := 17) hE hB dX0_level_13 (by decide) ?_
    exact g_iret K hr hlk hI rfl rfl dX0_level_17
set_option maxHeartbeats 4000000 in
set_option maxRecDepth 100000 in
theorem met_X0_committed {l : Launch} {D : va_G} {o : Nat} {a : Nat → Nat} {d : Nat → ClassId} {C : CS} {T : TS} {x : Nat} (hx : x < 16) (hW : WC C) (hT : WT T) : GMi l yX0_committed (ws_ yX0_committed cX0_committed 2 (some .int)) (rmD 5) D (tysX d) (wX o a d C T) [.ref o, .int (nI x)] (wX o a d C T) (cmt C T x) := by
  refine GMi.of (by decide) (Nat.le_of_ble_eq_true rfl) ?_
  intro p e s m args below meth cd A ls K hr hlk hI hl
  have K : GC RX0 (tysX d) D A p s m args cd cX0_committed 2 := K
  have hl : lv_has ls 2 [(0, .ref o), (1, .int (nI x))] := hl
  obtain ⟨hE, hB, hml, hown, hts, hK, hA⟩ := id K
  refine lv_iload_n hE hB dX0_committed_0 rfl (lv_at hl 1 rfl) ?_
  refine kX0_isCell K hI  (v := (nI 1)) (congrArg nI (isI_ok (by omega) (by decide))) hl.1 ⟨Nat.le_of_ble_eq_true rfl, Nat.le_of_ble_eq_true rfl⟩ (Nat.le_of_ble_eq_true rfl) ⟨Nat.zero_le _, Nat.zero_le _⟩ dX0_committed_1 (fun H locs hI => ?_)
  refine n_if_eq (tgt := 15) hE hB (by omega) dX0_committed_4 (by decide) (fun h_4 => ?_) (fun h_4 => ?_)
  · exact absurd h_4 (by decide)
  · refine lv_aload_n hE hB dX0_committed_7 rfl (lv_at hl 0 rfl) ?_
    refine lv_iload_n hE hB dX0_committed_8 rfl (lv_at hl 1 rfl) ?_
    refine kX0_committedIn K hI (by omega) hW hT rfl hl.1 ⟨Nat.le_of_ble_eq_true rfl, Nat.le_of_ble_eq_true rfl⟩ (Nat.le_of_ble_eq_true rfl) ⟨Nat.zero_le _, Nat.zero_le _⟩ dX0_committed_9 (fun H locs hI => ?_)
    refine lv_goto (tgt := 16) hE hB dX0_committed_12 (by decide) ?_
    exact g_iret K hr hlk hI rfl rfl dX0_committed_16
set_option maxHeartbeats 4000000 in
set_option maxRecDepth 100000 in
theorem met_X0_readBy {l : Launch} {D : va_G} {o : Nat} {a : Nat → Nat} {d : Nat → ClassId} {C : CS} {T : TS} {c : Nat} (hc : c < 4) (hT : WT T) : GMi l yX0_readBy (ws_ yX0_readBy cX0_readBy 2 (some .int)) (rmD 1) D (tysX d) (wX o a d C T) [.ref o, .int (nI c)] (wX o a d C T) (rset T c) := by
  refine GMi.of (by decide) (Nat.le_of_ble_eq_true rfl) ?_
  intro p e s m args below meth cd A ls K hr hlk hI hl
  have K : GC RX0 (tysX d) D A p s m args cd cX0_readBy 2 := K
  have hl : lv_has ls 2 [(0, .ref o), (1, .int (nI c))] := hl
  obtain ⟨hE, hB, hml, hown, hts, hK, hA⟩ := id K
  refine lv_iload_n hE hB dX0_readBy_0 rfl (lv_at hl 1 rfl) ?_
  refine kX0_isCore K hI  (v := (nI 1)) (congrArg nI (isI_ok (by omega) (by decide))) hl.1 ⟨Nat.le_of_ble_eq_true rfl, Nat.le_of_ble_eq_true rfl⟩ (Nat.le_of_ble_eq_true rfl) ⟨Nat.zero_le _, Nat.zero_le _⟩ dX0_readBy_1 (fun H locs hI => ?_)
  refine n_if_eq (tgt := 15) hE hB (by omega) dX0_readBy_4 (by decide) (fun h_4 => ?_) (fun h_4 => ?_)
  · exact absurd h_4 (by decide)
  · refine lv_aload_n hE hB dX0_readBy_7 rfl (lv_at hl 0 rfl) ?_
    refine lv_iload_n hE hB dX0_readBy_8 rfl (lv_at hl 1 rfl) ?_
    refine kX0_readSet K hI (by omega) hT rfl hl.1 ⟨Nat.le_of_ble_eq_true rfl, Nat.le_of_ble_eq_true rfl⟩ (Nat.le_of_ble_eq_true rfl) ⟨Nat.zero_le _, Nat.zero_le _⟩ dX0_readBy_9 (fun H locs hI => ?_)
    refine lv_goto (tgt := 16) hE hB dX0_readBy_12 (by decide) ?_
    exact g_iret K hr hlk hI rfl rfl dX0_readBy_16
set_option maxHeartbeats 4000000 in
set_option maxRecDepth 100000 in
theorem met_X0_writtenBy {l : Launch} {D : va_G} {o : Nat} {a : Nat → Nat} {d : Nat → ClassId} {C : CS} {T : TS} {c : Nat} (hc : c < 4) (hT : WT T) : GMi l yX0_writtenBy (ws_ yX0_writtenBy cX0_writtenBy 2 (some .int)) (rmD 1) D (tysX d) (wX o a d C T) [.ref o, .int (nI c)] (wX o a d C T) (wset T c) := by
  refine GMi.of (by decide) (Nat.le_of_ble_eq_true rfl) ?_
  intro p e s m args below meth cd A ls K hr hlk hI hl
  have K : GC RX0 (tysX d) D A p s m args cd cX0_writtenBy 2 := K
  have hl : lv_has ls 2 [(0, .ref o), (1, .int (nI c))] := hl
  obtain ⟨hE, hB, hml, hown, hts, hK, hA⟩ := id K
  refine lv_iload_n hE hB dX0_writtenBy_0 rfl (lv_at hl 1 rfl) ?_
  refine kX0_isCore K hI  (v := (nI 1)) (congrArg nI (isI_ok (by omega) (by decide))) hl.1 ⟨Nat.le_of_ble_eq_true rfl, Nat.le_of_ble_eq_true rfl⟩ (Nat.le_of_ble_eq_true rfl) ⟨Nat.zero_le _, Nat.zero_le _⟩ dX0_writtenBy_1 (fun H locs hI => ?_)
  refine n_if_eq (tgt := 15) hE hB (by omega) dX0_writtenBy_4 (by decide) (fun h_4 => ?_) (fun h_4 => ?_)
  · exact absurd h_4 (by decide)
  · refine lv_aload_n hE hB dX0_writtenBy_7 rfl (lv_at hl 0 rfl) ?_
    refine lv_iload_n hE hB dX0_writtenBy_8 rfl (lv_at hl 1 rfl) ?_
    refine kX0_writtenSet K hI (by omega) hT rfl hl.1 ⟨Nat.le_of_ble_eq_true rfl, Nat.le_of_ble_eq_true rfl⟩ (Nat.le_of_ble_eq_true rfl) ⟨Nat.zero_le _, Nat.zero_le _⟩ dX0_writtenBy_9 (fun H locs hI => ?_)
    refine lv_goto (tgt := 16) hE hB dX0_writtenBy_12 (by decide) ?_
    exact g_iret K hr hlk hI rfl rfl dX0_writtenBy_16
set_option maxHeartbeats 4000000 in
set_option maxRecDepth 100000 in
theorem met_X0_rivals0 {l : Launch} {D : va_G} {o : Nat} {a : Nat → Nat} {d : Nat → ClassId} {C : CS} {T : TS} {c x : Nat} (hc : c < 4) (hx : x < 16) (hT : WT T) : GMi l yX0_rivals (ws_ yX0_rivals cX0_rivals 4 (some .int)) (rmD 2) D (tysX d) (wX o a d C T) [.ref o, .int (nI c), .int (nI x), .int (nI 0)] (wX o a d C T) (rivs T c x 0) := by
  refine GMi.of (by decide) (Nat.le_of_ble_eq_true rfl) ?_
  intro p e s m args below meth cd A ls K hr hlk hI hl
  have K : GC RX0 (tysX d) D A p s m args cd cX0_rivals 4 := K
  have hl : lv_has ls 4 [(0, .ref o), (1, .int (nI c)), (2, .int (nI x)), (3, .int (nI 0))] := hl
  obtain ⟨hE, hB, hml, hown, hts, hK, hA⟩ := id K
  refine lv_iload_n hE hB dX0_rivals_0 rfl (lv_at hl 1 rfl) ?_
  refine kX0_isCore K hI  (v := (nI 1)) (congrArg nI (isI_ok (by omega) (by decide))) hl.1 ⟨Nat.le_of_ble_eq_true rfl, Nat.le_of_ble_eq_true rfl⟩ (Nat.le_of_ble_eq_true rfl) ⟨Nat.zero_le _, Nat.zero_le _⟩ dX0_rivals_1 (fun H locs hI => ?_)
  refine n_if_eq (tgt := 42) hE hB (by omega) dX0_rivals_4 (by decide) (fun h_4 => ?_) (fun h_4 => ?_)
  · exact absurd h_4 (by decide)
  · refine lv_iload_n hE hB dX0_rivals_7 rfl (lv_at hl 2 rfl) ?_
    refine kX0_isCell K hI  (v := (nI 1)) (congrArg nI (isI_ok (by omega) (by decide))) hl.1 ⟨Nat.le_of_ble_eq_true rfl, Nat.le_of_ble_eq_true rfl⟩ (Nat.le_of_ble_eq_true rfl) ⟨Nat.zero_le _, Nat.zero_le _⟩ dX0_rivals_8 (fun H locs hI => ?_)
    refine n_if_eq (tgt := 42) hE hB (by omega) dX0_rivals_11 (by decide) (fun h_11 => ?_) (fun h_11 => ?_)
    · exact absurd h_11 (by decide)
    · refine lv_iload_n hE hB dX0_rivals_14 rfl (lv_at hl 3 rfl) ?_
      refine n_if_eq (tgt := 23) hE hB (by omega) dX0_rivals_15 (by decide) (fun h_15 => ?_) (fun h_15 => ?_)
      · refine lv_aload_n hE hB dX0_rivals_23 rfl (lv_at hl 0 rfl) ?_
        refine lv_iload_n hE hB dX0_rivals_24 rfl (lv_at hl 1 rfl) ?_
        refine lv_iload_n hE hB dX0_rivals_25 rfl (lv_at hl 2 rfl) ?_
        refine lv_iload_n hE hB dX0_rivals_26 rfl (lv_at hl 3 rfl) ?_
        refine lv_iconst (v := nI 1) hE hB dX0_rivals_27 (by decide) ?_
        refine n_ic_ne (tgt := 35) hE hB (by omega) (by omega) dX0_rivals_28 (by decide) (fun h_28 => ?_) (fun h_28 => ?_)
        · refine lv_iconst (v := nI 0) hE hB dX0_rivals_35 (by decide) ?_
          refine kX0_rivalsOf K hI (by omega) (by omega) (by omega) hT rfl hl.1 ⟨Nat.le_of_ble_eq_true rfl, Nat.le_of_ble_eq_true rfl⟩ (Nat.le_of_ble_eq_true rfl) ⟨Nat.zero_le _, Nat.zero_le _⟩ dX0_rivals_36 (fun H locs hI => ?_)
          refine lv_goto (tgt := 43) hE hB dX0_rivals_39 (by decide) ?_
          exact g_iret K hr hlk hI rfl rfl dX0_rivals_43
        · exact absurd h_28 (by decide)
      · exact absurd h_15 (by decide)
set_option maxHeartbeats 4000000 in
set_option maxRecDepth 100000 in
theorem met_X0_rivals1 {l : Launch} {D : va_G} {o : Nat} {a : Nat → Nat} {d : Nat → ClassId} {C : CS} {T : TS} {c x : Nat} (hc : c < 4) (hx : x < 16) (hT : WT T) : GMi l yX0_rivals (ws_ yX0_rivals cX0_rivals 4 (some .int)) (rmD 2) D (tysX d) (wX o a d C T) [.ref o, .int (nI c), .int (nI x), .int (nI 1)] (wX o a d C T) (rivs T c x 1) := by
  refine GMi.of (by decide) (Nat.le_of_ble_eq_true rfl) ?_
  intro p e s m args below meth cd A ls K hr hlk hI hl
  have K : GC RX0 (tysX d) D A p s m args cd cX0_rivals 4 := K
  have hl : lv_has ls 4 [(0, .ref o), (1, .int (nI c)), (2, .int (nI x)), (3, .int (nI 1))] := hl
  obtain ⟨hE, hB, hml, hown, hts, hK, hA⟩ := id K
  refine lv_iload_n hE hB dX0_rivals_0 rfl (lv_at hl 1 rfl) ?_
  refine kX0_isCore K hI  (v := (nI 1)) (congrArg nI (isI_ok (by omega) (by decide))) hl.1 ⟨Nat.le_of_ble_eq_true rfl, Nat.le_of_ble_eq_true rfl⟩ (Nat.le_of_ble_eq_true rfl) ⟨Nat.zero_le _, Nat.zero_le _⟩ dX0_rivals_1 (fun H locs hI => ?_)
  refine n_if_eq (tgt := 42) hE hB (by omega) dX0_rivals_4 (by decide) (fun h_4 => ?_) (fun h_4 => ?_)
  · exact absurd h_4 (by decide)
  · refine lv_iload_n hE hB dX0_rivals_7 rfl (lv_at hl 2 rfl) ?_
    refine kX0_isCell K hI  (v := (nI 1)) (congrArg nI (isI_ok (by omega) (by decide))) hl.1 ⟨Nat.le_of_ble_eq_true rfl, Nat.le_of_ble_eq_true rfl⟩ (Nat.le_of_ble_eq_true rfl) ⟨Nat.zero_le _, Nat.zero_le _⟩ dX0_rivals_8 (fun H locs hI => ?_)
    refine n_if_eq (tgt := 42) hE hB (by omega) dX0_rivals_11 (by decide) (fun h_11 => ?_) (fun h_11 => ?_)
    · exact absurd h_11 (by decide)
    · refine lv_iload_n hE hB dX0_rivals_14 rfl (lv_at hl 3 rfl) ?_
      refine n_if_eq (tgt := 23) hE hB (by omega) dX0_rivals_15 (by decide) (fun h_15 => ?_) (fun h_15 => ?_)
      · exact absurd h_15 (by decide)
      · refine lv_iload_n hE hB dX0_rivals_18 rfl (lv_at hl 3 rfl) ?_
        refine lv_iconst (v := nI 1) hE hB dX0_rivals_19 (by decide) ?_
        refine n_ic_ne (tgt := 42) hE hB (by omega) (by omega) dX0_rivals_20 (by decide) (fun h_20 => ?_) (fun h_20 => ?_)
        · exact absurd h_20 (by decide)
        · refine lv_aload_n hE hB dX0_rivals_23 rfl (lv_at hl 0 rfl) ?_
          refine lv_iload_n hE hB dX0_rivals_24 rfl (lv_at hl 1 rfl) ?_
          refine lv_iload_n hE hB dX0_rivals_25 rfl (lv_at hl 2 rfl) ?_
          refine lv_iload_n hE hB dX0_rivals_26 rfl (lv_at hl 3 rfl) ?_
          refine lv_iconst (v := nI 1) hE hB dX0_rivals_27 (by decide) ?_
          refine n_ic_ne (tgt := 35) hE hB (by omega) (by omega) dX0_rivals_28 (by decide) (fun h_28 => ?_) (fun h_28 => ?_)
          · exact absurd h_28 (by decide)
          · refine lv_iconst (v := nI 1) hE hB dX0_rivals_31 (by decide) ?_
            refine lv_goto (tgt := 36) hE hB dX0_rivals_32 (by decide) ?_
            refine kX0_rivalsOf K hI (by omega) (by omega) (by omega) hT rfl hl.1 ⟨Nat.le_of_ble_eq_true rfl, Nat.le_of_ble_eq_true rfl⟩ (Nat.le_of_ble_eq_true rfl) ⟨Nat.zero_le _, Nat.zero_le _⟩ dX0_rivals_36 (fun H locs hI => ?_)
            refine lv_goto (tgt := 43) hE hB dX0_rivals_39 (by decide) ?_
            exact g_iret K hr hlk hI rfl rfl dX0_rivals_43
set_option maxHeartbeats 4000000 in
set_option maxRecDepth 100000 in
theorem lpX_digest {p : Program} {l : Launch} {e : Env} {s : State} {m : MethodId} {args : Array Value} {below : List Frame} {meth : Method} {cd : Code} {D : va_G} {A : Nat → Prop} {o : Nat} {a : Nat → Nat} {d : Nat → ClassId} (K : GC RX0 (tysX d) D A p s m args cd cX0_digest 4) (hr : meth.sig.returnType = some .int) (hlk : meth.locks = false) {wz : va_W} {r : Int32} {C : CS} {T : TS} (hW : WC C) (hT : WT T) : ∀ (n k : Nat) (acc : Int32) (H : Heap) (locs : List Loc) (ls : Array Slot), k + n = 16 → wX o a d C T = wz → dgL (cmt C T) n k acc = r → GI D A s.heap (wX o a d C T) H locs → lv_has ls 4 [(0, .ref o), (1, .int acc), (2, .int (nI k))] → W p l e (rmD 5) s m args below meth cd H locs 0 0 (MQ below (gQi D (tysX d) A wz r) args s 0 0 A) (F0 m 4 ls []) := by
  obtain ⟨hE, hB, hml, hown, hts, hK, hA⟩ := id K
  intro n
  induction n with
  | zero =>
    intro k acc H locs ls hkn hz hres hI hl
    obtain rfl : k = 16 := by omega
    refine lv_iload_n hE hB dX0_digest_4 rfl (lv_at hl 2 rfl) ?_
    refine lv_bipush (v := nI 16) hE hB dX0_digest_5 (by decide) ?_
    refine n_ic_ge (tgt := 30) hE hB (by omega) (by omega) dX0_digest_7 (by decide) (fun h_7 => ?_) (fun h_7 => ?_)
    · refine lv_iload_n hE hB dX0_digest_30 rfl (lv_at hl 1 rfl) ?_
      exact g_iret K hr hlk hI hz (by rw [← hres]; rfl) dX0_digest_31
    · exact absurd h_7 (by decide)
  | succ n ih =>
    intro k acc H locs ls hkn hz hres hI hl
    refine lv_iload_n hE hB dX0_digest_4 rfl (lv_at hl 2 rfl) ?_
    refine lv_bipush (v := nI 16) hE hB dX0_digest_5 (by decide) ?_
    refine n_ic_ge (tgt := 30) hE hB (by omega) (by omega) dX0_digest_7 (by decide) (fun h_7 => ?_) (fun h_7 => ?_)
    · omega
    · refine lv_aload_n hE hB dX0_digest_10 rfl (lv_at hl 0 rfl) ?_
      refine lv_iload_n hE hB dX0_digest_11 rfl (lv_at hl 2 rfl) ?_
      refine kX0_committedIn K hI (by omega) hW hT rfl hl.1 ⟨Nat.le_of_ble_eq_true rfl, Nat.le_of_ble_eq_true rfl⟩ (Nat.le_of_ble_eq_true rfl) ⟨Nat.zero_le _, Nat.zero_le _⟩ dX0_digest_12 (fun H locs hI => ?_)
      refine lv_istore_n (lv' := [(3, .int (cmt C T k)), (0, .ref o), (1, .int acc), (2, .int (nI k))]) hE hB dX0_digest_15 rfl hl (by decide) rfl (fun ls hl => ?_)
      refine lv_iload_n hE hB dX0_digest_16 rfl (lv_at hl 2 rfl) ?_
      refine lv_iload_n hE hB dX0_digest_17 rfl (lv_at hl 3 rfl) ?_
      refine lv_iconst (v := nI 1) hE hB dX0_digest_18 (by decide) ?_
      refine n_add hE hB dX0_digest_19 ?_
      refine lv_iload_n hE hB dX0_digest_20 rfl (lv_at hl 0 rfl) ?_
      refine lv_imul hE hB dX0_digest_21 ?_
      refine lv_iadd hE hB dX0_digest_22 ?_
      refine lv_istore_n (lv' := [(1, .int (acc + ((nI (k + 1)) * (cmt C T k)))), (3, .int (cmt C T k)), (0, .ref o), (2, .int (nI k))]) hE hB dX0_digest_23 rfl hl (by decide) rfl (fun ls hl => ?_)
      refine lv_iinc (v := (nI (k + 1))) (lv' := [(2, .int (nI (k + 1))), (1, .int (acc + ((nI (k + 1)) * (cmt C T k)))), (3, .int (cmt C T k)), (0, .ref o)]) hE hB dX0_digest_24 hl (k := 3) rfl (nI_1 _) (by decide) rfl (fun ls hl => ?_)
      refine lv_goto (tgt := 4) hE hB dX0_digest_27 (by decide) ?_
      exact ih (k + 1) (acc + nI (k + 1) * cmt C T k) H locs ls (by omega) hz (by rw [← hres]; rfl) hI (lv_sub hl [3, 1, 0] rfl)
set_option maxHeartbeats 4000000 in
set_option maxRecDepth 100000 in
theorem met_X0_digest {l : Launch} {D : va_G} {o : Nat} {a : Nat → Nat} {d : Nat → ClassId} {C : CS} {T : TS} (hW : WC C) (hT : WT T) : GMi l yX0_digest (ws_ yX0_digest cX0_digest 4 (some .int)) (rmD 5) D (tysX d) (wX o a d C T) [.ref o] (wX o a d C T) (dgL (cmt C T) 16 0 (nI 0)) := by
  refine GMi.of (by decide) (Nat.le_of_ble_eq_true rfl) ?_
  intro p e s m args below meth cd A ls K hr hlk hI hl
  have K : GC RX0 (tysX d) D A p s m args cd cX0_digest 4 := K
  have hl : lv_has ls 4 [(0, .ref o)] := hl
  obtain ⟨hE, hB, hml, hown, hts, hK, hA⟩ := id K
  refine lv_iconst (v := nI 0) hE hB dX0_digest_0 (by decide) ?_
  refine lv_istore_n (lv' := [(1, .int (nI 0)), (0, .ref o)]) hE hB dX0_digest_1 rfl hl (by decide) rfl (fun ls hl => ?_)
  refine lv_iconst (v := nI 0) hE hB dX0_digest_2 (by decide) ?_
  refine lv_istore_n (lv' := [(2, .int (nI 0)), (1, .int (nI 0)), (0, .ref o)]) hE hB dX0_digest_3 rfl hl (by decide) rfl (fun ls hl => ?_)
  exact lpX_digest K hr hlk hW hT 16 0 (nI 0) _ _ ls rfl rfl rfl hI (lv_sub hl [2, 1, 0] rfl)
end
section
/-! contracts: the reference -/
set_option maxHeartbeats 4000000 in
set_option maxRecDepth 100000 in
theorem met_X1_core {l : Launch} {D : va_G} {o : Nat} {a : Nat → Nat} {d : Nat → ClassId} {M : MS} {c : Int32} : GMi l yX1_core (ws_ yX1_core cX1_core 2 (some .boolean)) (rmD 0) D (tysM d) (wM o a d M) [.ref o, .int c] (wM o a d M) (nI (isI c 4)) := by
  refine GMi.of (by decide) (Nat.le_of_ble_eq_true rfl) ?_
  intro p e s m args below meth cd A ls K hr hlk hI hl
  have K : GC RX1 (tysM d) D A p s m args cd cX1_core 2 := K
  have hl : lv_has ls 2 [(0, .ref o), (1, .int c)] := hl
  obtain ⟨hE, hB, hml, hown, hts, hK, hA⟩ := id K
  refine lv_iload_n hE hB dX1_core_0 rfl (lv_at hl 1 rfl) ?_
  refine lv_if_lt (tgt := 13) hE hB dX1_core_1 (by decide) (fun h_1 => ?_) (fun h_1 => ?_)
  · refine lv_iconst (v := nI 0) hE hB dX1_core_13 (by decide) ?_
    exact g_zret K hr hlk hI rfl rfl (by simp [isI, isI_g3, h_1]) dX1_core_14
  · refine lv_iload_n hE hB dX1_core_4 rfl (lv_at hl 1 rfl) ?_
    refine lv_iconst (v := nI 3) hE hB dX1_core_5 (by decide) ?_
    refine lv_icmp_gt (tgt := 13) hE hB dX1_core_6 (by decide) (fun h_6 => ?_) (fun h_6 => ?_)
    · refine lv_iconst (v := nI 0) hE hB dX1_core_13 (by decide) ?_
      exact g_zret K hr hlk hI rfl rfl (by simp [isI, isI_g3, h_1, h_6]) dX1_core_14
    · refine lv_iconst (v := nI 1) hE hB dX1_core_9 (by decide) ?_
      refine lv_goto (tgt := 14) hE hB dX1_core_10 (by decide) ?_
      exact g_zret K hr hlk hI rfl rfl (by simp [isI, isI_g3, h_1, h_6]) dX1_core_14
set_option maxHeartbeats 4000000 in
set_option maxRecDepth 100000 in
theorem kX1_core {p : Program} {l : Launch} {e : Env} {R : Room} {s : State} {m : MethodId} {args : Array Value} {below : List Frame} {meth : Method} {cd : Code} {H : Heap} {locs : List Loc} {cells slots : Nat} {Q : State → Prop} {cc : ByteArray} {pc : Nat} {ls : Array Slot} {rest : List Value} {D : va_G} {A : Nat → Prop} {nL : Nat} {o : Nat} {a : Nat → Nat} {d : Nat → ClassId} {M : MS} (K : GC RX1 (tysM d) D A p s m args cd cc nL) (hI : GI D A s.heap (wM o a d M) H locs) {c : Int32} {v : Int32} (hv : nI (isI c 4) = v) (hls : ls.size = nL) (hR : (rmD 0).frames + 1 ≤ R.frames ∧ 8 + (2 + 11) + (rmD 0).locals ≤ R.locals) (hroom : (rest.map fun v => v.category).sum ≤ 8) (hf : cells ≤ R.cells ∧ slots ≤ R.slots) (hdg : decode cc pc = .ok (.invokevirtual 25, 3)) (kk : ∀ (H : Heap) (locs : List Loc), GI D A s.heap (wM o a d M) H locs → W p l e R s m args below meth cd H locs cells slots Q (F0 m (pc + 3) ls (.int v :: rest))) : W p l e R s m args below meth cd H locs cells slots Q (F0 m pc ls (.int c :: .ref o :: rest)) := g_calli (ci := 1) (q0 := 0) (n := 1) (As := [.int c]) K hI (met_X1_core ) hv (lw_V q216 q218 qs15 q23 q219) (by decide +kernel) ⟨rfl, rfl⟩ rfl rfl rfl rfl rfl hls hR hroom hf hdg kk
set_option maxHeartbeats 4000000 in
set_option maxRecDepth 100000 in
theorem met_X1_cell {l : Launch} {D : va_G} {o : Nat} {a : Nat → Nat} {d : Nat → ClassId} {M : MS} {c : Int32} : GMi l yX1_cell (ws_ yX1_cell cX1_cell 2 (some .boolean)) (rmD 0) D (tysM d) (wM o a d M) [.ref o, .int c] (wM o a d M) (nI (isI c 16)) := by
  refine GMi.of (by decide) (Nat.le_of_ble_eq_true rfl) ?_
  intro p e s m args below meth cd A ls K hr hlk hI hl
  have K : GC RX1 (tysM d) D A p s m args cd cX1_cell 2 := K
  have hl : lv_has ls 2 [(0, .ref o), (1, .int c)] := hl
  obtain ⟨hE, hB, hml, hown, hts, hK, hA⟩ := id K
  refine lv_iload_n hE hB dX1_cell_0 rfl (lv_at hl 1 rfl) ?_
  refine lv_if_lt (tgt := 14) hE hB dX1_cell_1 (by decide) (fun h_1 => ?_) (fun h_1 => ?_)
  · refine lv_iconst (v := nI 0) hE hB dX1_cell_14 (by decide) ?_
    exact g_zret K hr hlk hI rfl rfl (by simp [isI, isI_g15, h_1]) dX1_cell_15
  · refine lv_iload_n hE hB dX1_cell_4 rfl (lv_at hl 1 rfl) ?_
    refine lv_bipush (v := nI 15) hE hB dX1_cell_5 (by decide) ?_
    refine lv_icmp_gt (tgt := 14) hE hB dX1_cell_7 (by decide) (fun h_7 => ?_) (fun h_7 => ?_)
    · refine lv_iconst (v := nI 0) hE hB dX1_cell_14 (by decide) ?_
      exact g_zret K hr hlk hI rfl rfl (by simp [isI, isI_g15, h_1, h_7]) dX1_cell_15
    · refine lv_iconst (v := nI 1) hE hB dX1_cell_10 (by decide) ?_
      refine lv_goto (tgt := 15) hE hB dX1_cell_11 (by decide) ?_
      exact g_zret K hr hlk hI rfl rfl (by simp [isI, isI_g15, h_1, h_7]) dX1_cell_15
set_option maxHeartbeats 4000000 in
set_option maxRecDepth 100000 in
theorem kX1_cell {p : Program} {l : Launch} {e : Env} {R : Room} {s : State} {m : MethodId} {args : Array Value} {below : List Frame} {meth : Method} {cd : Code} {H : Heap} {locs : List Loc} {cells slots : Nat} {Q : State → Prop} {cc : ByteArray} {pc : Nat} {ls : Array Slot} {rest : List Value} {D : va_G} {A : Nat → Prop} {nL : Nat} {o : Nat} {a : Nat → Nat} {d : Nat → ClassId} {M : MS} (K : GC RX1 (tysM d) D A p s m args cd cc nL) (hI : GI D A s.heap (wM o a d M) H locs) {c : Int32} {v : Int32} (hv : nI (isI c 16) = v) (hls : ls.size = nL) (hR : (rmD 0).frames + 1 ≤ R.frames ∧ 8 + (2 + 11) + (rmD 0).locals ≤ R.locals) (hroom : (rest.map fun v => v.category).sum ≤ 8) (hf : cells ≤ R.cells ∧ slots ≤ R.slots) (hdg : decode cc pc = .ok (.invokevirtual 36, 3)) (kk : ∀ (H : Heap) (locs : List Loc), GI D A s.heap (wM o a d M) H locs → W p l e R s m args below meth cd H locs cells slots Q (F0 m (pc + 3) ls (.int v :: rest))) : W p l e R s m args below meth cd H locs cells slots Q (F0 m pc ls (.int c :: .ref o :: rest)) := g_calli (ci := 1) (q0 := 0) (n := 1) (As := [.int c]) K hI (met_X1_cell ) hv (lw_V q224 q226 qs16 q23 q227) (by decide +kernel) ⟨rfl, rfl⟩ rfl rfl rfl rfl rfl hls hR hroom hf hdg kk
set_option maxHeartbeats 4000000 in
set_option maxRecDepth 100000 in
theorem lpM_readSet {p : Program} {l : Launch} {e : Env} {s : State} {m : MethodId} {args : Array Value} {below : List Frame} {meth : Method} {cd : Code} {D : va_G} {A : Nat → Prop} {o : Nat} {a : Nat → Nat} {d : Nat → ClassId} (K : GC RX1 (tysM d) D A p s m args cd cX1_readSet 4) (hr : meth.sig.returnType = some .int) (hlk : meth.locks = false) {wz : va_W} {r : Int32} {M : MS} {c : Nat} (hc : c < 4) (hM : WM M) : ∀ (n k : Nat) (acc : Int32) (H : Heap) (locs : List Loc) (ls : Array Slot), k + n = mL M c + 1 → wM o a d M = wz → rsL (mR M) (4 * c) n k acc = r → GI D A s.heap (wM o a d M) H locs → lv_has ls 4 [(0, .ref o), (1, .int (nI c)), (2, .int acc), (3, .int (nI k))] → W p l e (rmD 0) s m args below meth cd H locs 0 0 (MQ below (gQi D (tysM d) A wz r) args s 0 0 A) (F0 m 4 ls []) := by
  obtain ⟨hE, hB, hml, hown, hts, hK, hA⟩ := id K
  have hlv := hM c hc
  intro n
  induction n with
  | zero =>
    intro k acc H locs ls hkn hz hres hI hl
    refine lv_iload_n hE hB dX1_readSet_4 rfl (lv_at hl 3 rfl) ?_
    refine lv_aload_n hE hB dX1_readSet_5 rfl (lv_at hl 0 rfl) ?_
    refine mg1 hE hB hts hown hK hI dX1_readSet_6 ?_
    refine lv_iload_n hE hB dX1_readSet_9 rfl (lv_at hl 1 rfl) ?_
    refine ml1 hE hB hK hI (i := c) (by omega) dX1_readSet_10 ?_
    refine n_ic_gt (tgt := 33) hE hB (by omega) (by omega) dX1_readSet_11 (by decide) (fun h_11 => ?_) (fun h_11 => ?_)
    · refine lv_iload_n hE hB dX1_readSet_33 rfl (lv_at hl 2 rfl) ?_
      exact g_iret K hr hlk hI hz (by rw [← hres]; rfl) dX1_readSet_34
    · omega
  | succ n ih =>
    intro k acc H locs ls hkn hz hres hI hl
    refine lv_iload_n hE hB dX1_readSet_4 rfl (lv_at hl 3 rfl) ?_
    refine lv_aload_n hE hB dX1_readSet_5 rfl (lv_at hl 0 rfl) ?_
    refine mg1 hE hB hts hown hK hI dX1_readSet_6 ?_
    refine lv_iload_n hE hB dX1_readSet_9 rfl (lv_at hl 1 rfl) ?_
    refine ml1 hE hB hK hI (i := c) (by omega) dX1_readSet_10 ?_
    refine n_ic_gt (tgt := 33) hE hB (by omega) (by omega) dX1_readSet_11 (by decide) (fun h_11 => ?_) (fun h_11 => ?_)
    · omega
    · refine lv_iload_n hE hB dX1_readSet_14 rfl (lv_at hl 2 rfl) ?_
      refine lv_aload_n hE hB dX1_readSet_15 rfl (lv_at hl 0 rfl) ?_
      refine mg2 hE hB hts hown hK hI dX1_readSet_16 ?_
      refine lv_iconst (v := nI 4) hE hB dX1_readSet_19 (by decide) ?_
      refine lv_iload_n hE hB dX1_readSet_20 rfl (lv_at hl 1 rfl) ?_
      refine n_mul hE hB dX1_readSet_21 ?_
      refine lv_iload_n hE hB dX1_readSet_22 rfl (lv_at hl 3 rfl) ?_
      refine n_add hE hB dX1_readSet_23 ?_
      refine ml2 hE hB hK hI (i := ((4 * c) + k)) (by omega) dX1_readSet_24 ?_
      refine lv_ior hE hB dX1_readSet_25 ?_
      refine lv_istore_n (lv' := [(2, .int (acc ||| (mR M ((4 * c) + k)))), (0, .ref o), (1, .int (nI c)), (3, .int (nI k))]) hE hB dX1_readSet_26 rfl hl (by decide) rfl (fun ls hl => ?_)
      refine lv_iinc (v := (nI (k + 1))) (lv' := [(3, .int (nI (k + 1))), (2, .int (acc ||| (mR M ((4 * c) + k)))), (0, .ref o), (1, .int (nI c))]) hE hB dX1_readSet_27 hl (k := 3) rfl (nI_1 _) (by decide) rfl (fun ls hl => ?_)
      refine lv_goto (tgt := 4) hE hB dX1_readSet_30 (by decide) ?_
      exact ih (k + 1) (acc ||| mR M (4 * c + k)) H locs ls (by omega) hz (by rw [← hres]; rfl) hI (lv_sub hl [2, 3, 1, 0] rfl)
set_option maxHeartbeats 4000000 in
set_option maxRecDepth 100000 in
theorem met_X1_readSet {l : Launch} {D : va_G} {o : Nat} {a : Nat → Nat} {d : Nat → ClassId} {M : MS} {c : Nat} (hc : c < 4) (hM : WM M) : GMi l yX1_readSet (ws_ yX1_readSet cX1_readSet 4 (some .int)) (rmD 0) D (tysM d) (wM o a d M) [.ref o, .int (nI c)] (wM o a d M) (mrs M c) := by
  refine GMi.of (by decide) (Nat.le_of_ble_eq_true rfl) ?_
  intro p e s m args below meth cd A ls K hr hlk hI hl
  have K : GC RX1 (tysM d) D A p s m args cd cX1_readSet 4 := K
  have hl : lv_has ls 4 [(0, .ref o), (1, .int (nI c))] := hl
  obtain ⟨hE, hB, hml, hown, hts, hK, hA⟩ := id K
  refine lv_iconst (v := nI 0) hE hB dX1_readSet_0 (by decide) ?_
  refine lv_istore_n (lv' := [(2, .int (nI 0)), (0, .ref o), (1, .int (nI c))]) hE hB dX1_readSet_1 rfl hl (by decide) rfl (fun ls hl => ?_)
  refine lv_iconst (v := nI 1) hE hB dX1_readSet_2 (by decide) ?_
  refine lv_istore_n (lv' := [(3, .int (nI 1)), (2, .int (nI 0)), (0, .ref o), (1, .int (nI c))]) hE hB dX1_readSet_3 rfl hl (by decide) rfl (fun ls hl => ?_)
  exact lpM_readSet K hr hlk hc hM (mL M c) 1 (nI 0) _ _ ls (Nat.add_comm _ _) rfl rfl hI (lv_sub hl [2, 3, 1, 0] rfl)
set_option maxHeartbeats 4000000 in
set_option maxRecDepth 100000 in
theorem kX1_readSet {p : Program} {l : Launch} {e : Env} {R : Room} {s : State} {m : MethodId} {args : Array Value} {below : List Frame} {meth : Method} {cd : Code} {H : Heap} {locs : List Loc} {cells slots : Nat} {Q : State → Prop} {cc : ByteArray} {pc : Nat} {ls : Array Slot} {rest : List Value} {D : va_G} {A : Nat → Prop} {nL : Nat} {o : Nat} {a : Nat → Nat} {d : Nat → ClassId} {M : MS} (K : GC RX1 (tysM d) D A p s m args cd cc nL) (hI : GI D A s.heap (wM o a d M) H locs) {c : Nat} (hc : c < 4) (hM : WM M) {v : Int32} (hv : mrs M c = v) (hls : ls.size = nL) (hR : (rmD 0).frames + 1 ≤ R.frames ∧ 8 + (4 + 11) + (rmD 0).locals ≤ R.locals) (hroom : (rest.map fun v => v.category).sum ≤ 8) (hf : cells ≤ R.cells ∧ slots ≤ R.slots) (hdg : decode cc pc = .ok (.invokevirtual 33, 3)) (kk : ∀ (H : Heap) (locs : List Loc), GI D A s.heap (wM o a d M) H locs → W p l e R s m args below meth cd H locs cells slots Q (F0 m (pc + 3) ls (.int v :: rest))) : W p l e R s m args below meth cd H locs cells slots Q (F0 m pc ls (.int (nI c) :: .ref o :: rest)) := g_calli (ci := 1) (q0 := 0) (n := 1) (As := [.int (nI c)]) K hI (met_X1_readSet hc hM) hv (lw_V q236 q238 qs19 q23 q239) (by decide +kernel) ⟨rfl, rfl⟩ rfl rfl rfl rfl rfl hls hR hroom hf hdg kk
set_option maxHeartbeats 4000000 in
set_option maxRecDepth 100000 in
theorem lpM_writeSet {p : Program} {l : Launch} {e : Env} {s : State} {m : MethodId} {args : Array Value} {below : List Frame} {meth : Method} {cd : Code} {D : va_G} {A : Nat → Prop} {o : Nat} {a : Nat → Nat} {d : Nat → ClassId} (K : GC RX1 (tysM d) D A p s m args cd cX1_writeSet 4) (hr : meth.sig.returnType = some .int) (hlk : meth.locks = false) {wz : va_W} {r : Int32} {M : MS} {c : Nat} (hc : c < 4) (hM : WM M) : ∀ (n k : Nat) (acc : Int32) (H : Heap) (locs : List Loc) (ls : Array Slot), k + n = mL M c + 1 → wM o a d M = wz → rsL (mW M) (4 * c) n k acc = r → GI D A s.heap (wM o a d M) H locs → lv_has ls 4 [(0, .ref o), (1, .int (nI c)), (2, .int acc), (3, .int (nI k))] → W p l e (rmD 0) s m args below meth cd H locs 0 0 (MQ below (gQi D (tysM d) A wz r) args s 0 0 A) (F0 m 4 ls []) := by
  obtain ⟨hE, hB, hml, hown, hts, hK, hA⟩ := id K
  have hlv := hM c hc
  intro n
  induction n with
  | zero =>
    intro k acc H locs ls hkn hz hres hI hl
    refine lv_iload_n hE hB dX1_writeSet_4 rfl (lv_at hl 3 rfl) ?_
    refine lv_aload_n hE hB dX1_writeSet_5 rfl (lv_at hl 0 rfl) ?_
    refine mg1 hE hB hts hown hK hI dX1_writeSet_6 ?_
    refine lv_iload_n hE hB dX1_writeSet_9 rfl (lv_at hl 1 rfl) ?_
    refine ml1 hE hB hK hI (i := c) (by omega) dX1_writeSet_10 ?_
    refine n_ic_gt (tgt := 33) hE hB (by omega) (by omega) dX1_writeSet_11 (by decide) (fun h_11 => ?_) (fun h_11 => ?_)
    · refine lv_iload_n hE hB dX1_writeSet_33 rfl (lv_at hl 2 rfl) ?_
      exact g_iret K hr hlk hI hz (by rw [← hres]; rfl) dX1_writeSet_34
    · omega
  | succ n ih =>
    intro k acc H locs ls hkn hz hres hI hl
    refine lv_iload_n hE hB dX1_writeSet_4 rfl (lv_at hl 3 rfl) ?_
    refine lv_aload_n hE hB dX1_writeSet_5 rfl (lv_at hl 0 rfl) ?_
    refine mg1 hE hB hts hown hK hI dX1_writeSet_6 ?_
    refine lv_iload_n hE hB dX1_writeSet_9 rfl (lv_at hl 1 rfl) ?_
    refine ml1 hE hB hK hI (i := c) (by omega) dX1_writeSet_10 ?_
    refine n_ic_gt (tgt := 33) hE hB (by omega) (by omega) dX1_writeSet_11 (by decide) (fun h_11 => ?_) (fun h_11 => ?_)
    · omega
    · refine lv_iload_n hE hB dX1_writeSet_14 rfl (lv_at hl 2 rfl) ?_
      refine lv_aload_n hE hB dX1_writeSet_15 rfl (lv_at hl 0 rfl) ?_
      refine mg3 hE hB hts hown hK hI dX1_writeSet_16 ?_
      refine lv_iconst (v := nI 4) hE hB dX1_writeSet_19 (by decide) ?_
      refine lv_iload_n hE hB dX1_writeSet_20 rfl (lv_at hl 1 rfl) ?_
      refine n_mul hE hB dX1_writeSet_21 ?_
      refine lv_iload_n hE hB dX1_writeSet_22 rfl (lv_at hl 3 rfl) ?_
      refine n_add hE hB dX1_writeSet_23 ?_
      refine ml3 hE hB hK hI (i := ((4 * c) + k)) (by omega) dX1_writeSet_24 ?_
      refine lv_ior hE hB dX1_writeSet_25 ?_
      refine lv_istore_n (lv' := [(2, .int (acc ||| (mW M ((4 * c) + k)))), (0, .ref o), (1, .int (nI c)), (3, .int (nI k))]) hE hB dX1_writeSet_26 rfl hl (by decide) rfl (fun ls hl => ?_)
      refine lv_iinc (v := (nI (k + 1))) (lv' := [(3, .int (nI (k + 1))), (2, .int (acc ||| (mW M ((4 * c) + k)))), (0, .ref o), (1, .int (nI c))]) hE hB dX1_writeSet_27 hl (k := 3) rfl (nI_1 _) (by decide) rfl (fun ls hl => ?_)
      refine lv_goto (tgt := 4) hE hB dX1_writeSet_30 (by decide) ?_
      exact ih (k + 1) (acc ||| mW M (4 * c + k)) H locs ls (by omega) hz (by rw [← hres]; rfl) hI (lv_sub hl [2, 3, 1, 0] rfl)
set_option maxHeartbeats 4000000 in
set_option maxRecDepth 100000 in
theorem met_X1_writeSet {l : Launch} {D : va_G} {o : Nat} {a : Nat → Nat} {d : Nat → ClassId} {M : MS} {c : Nat} (hc : c < 4) (hM : WM M) : GMi l yX1_writeSet (ws_ yX1_writeSet cX1_writeSet 4 (some .int)) (rmD 0) D (tysM d) (wM o a d M) [.ref o, .int (nI c)] (wM o a d M) (mws M c) := by
  refine GMi.of (by decide) (Nat.le_of_ble_eq_true rfl) ?_
  intro p e s m args below meth cd A ls K hr hlk hI hl
  have K : GC RX1 (tysM d) D A p s m args cd cX1_writeSet 4 := K
  have hl : lv_has ls 4 [(0, .ref o), (1, .int (nI c))] := hl
  obtain ⟨hE, hB, hml, hown, hts, hK, hA⟩ := id K
  refine lv_iconst (v := nI 0) hE hB dX1_writeSet_0 (by decide) ?_
  refine lv_istore_n (lv' := [(2, .int (nI 0)), (0, .ref o), (1, .int (nI c))]) hE hB dX1_writeSet_1 rfl hl (by decide) rfl (fun ls hl => ?_)
  refine lv_iconst (v := nI 1) hE hB dX1_writeSet_2 (by decide) ?_
  refine lv_istore_n (lv' := [(3, .int (nI 1)), (2, .int (nI 0)), (0, .ref o), (1, .int (nI c))]) hE hB dX1_writeSet_3 rfl hl (by decide) rfl (fun ls hl => ?_)
  exact lpM_writeSet K hr hlk hc hM (mL M c) 1 (nI 0) _ _ ls (Nat.add_comm _ _) rfl rfl hI (lv_sub hl [2, 3, 1, 0] rfl)
set_option maxHeartbeats 4000000 in
set_option maxRecDepth 100000 in
theorem kX1_writeSet {p : Program} {l : Launch} {e : Env} {R : Room} {s : State} {m : MethodId} {args : Array Value} {below : List Frame} {meth : Method} {cd : Code} {H : Heap} {locs : List Loc} {cells slots : Nat} {Q : State → Prop} {cc : ByteArray} {pc : Nat} {ls : Array Slot} {rest : List Value} {D : va_G} {A : Nat → Prop} {nL : Nat} {o : Nat} {a : Nat → Nat} {d : Nat → ClassId} {M : MS} (K : GC RX1 (tysM d) D A p s m args cd cc nL) (hI : GI D A s.heap (wM o a d M) H locs) {c : Nat} (hc : c < 4) (hM : WM M) {v : Int32} (hv : mws M c = v) (hls : ls.size = nL) (hR : (rmD 0).frames + 1 ≤ R.frames ∧ 8 + (4 + 11) + (rmD 0).locals ≤ R.locals) (hroom : (rest.map fun v => v.category).sum ≤ 8) (hf : cells ≤ R.cells ∧ slots ≤ R.slots) (hdg : decode cc pc = .ok (.invokevirtual 29, 3)) (kk : ∀ (H : Heap) (locs : List Loc), GI D A s.heap (wM o a d M) H locs → W p l e R s m args below meth cd H locs cells slots Q (F0 m (pc + 3) ls (.int v :: rest))) : W p l e R s m args below meth cd H locs cells slots Q (F0 m pc ls (.int (nI c) :: .ref o :: rest)) := g_calli (ci := 1) (q0 := 0) (n := 1) (As := [.int (nI c)]) K hI (met_X1_writeSet hc hM) hv (lw_V q232 q234 qs18 q23 q235) (by decide +kernel) ⟨rfl, rfl⟩ rfl rfl rfl rfl rfl hls hR hroom hf hdg kk
set_option maxHeartbeats 4000000 in
set_option maxRecDepth 100000 in
theorem lpM_others {p : Program} {l : Launch} {e : Env} {s : State} {m : MethodId} {args : Array Value} {below : List Frame} {meth : Method} {cd : Code} {D : va_G} {A : Nat → Prop} {o : Nat} {a : Nat → Nat} {d : Nat → ClassId} (K : GC RX1 (tysM d) D A p s m args cd cX1_others 7) (hr : meth.sig.returnType = some .int) (hlk : meth.locks = false) {wz : va_W} {r : Int32} {M : MS} {c x w : Nat} (hc : c < 4) (hx : x < 16) (hw : w < 2) (hM : WM M) : ∀ (n k : Nat) (acc : Int32) (H : Heap) (locs : List Loc) (ls : Array Slot), k + n = 4 → wM o a d M = wz → moL (mth M w) c x n k acc = r → GI D A s.heap (wM o a d M) H locs → lv_has ls 7 [(0, .ref o), (1, .int (nI c)), (2, .int (nI x)), (3, .int (nI w)), (4, .int acc), (5, .int (nI k))] → W p l e (rmD 1) s m args below meth cd H locs 0 0 (MQ below (gQi D (tysM d) A wz r) args s 0 0 A) (F0 m 6 ls []) := by
  obtain ⟨hE, hB, hml, hown, hts, hK, hA⟩ := id K
  intro n
  induction n with
  | zero =>
    intro k acc H locs ls hkn hz hres hI hl
    obtain rfl : k = 4 := by omega
    refine lv_iload hE hB dX1_others_6 (lv_at hl 5 rfl) ?_
    refine lv_iconst (v := nI 4) hE hB dX1_others_8 (by decide) ?_
    refine n_ic_ge (tgt := 76) hE hB (by omega) (by omega) dX1_others_9 (by decide) (fun h_9 => ?_) (fun h_9 => ?_)
    · refine lv_iload hE hB dX1_others_76 (lv_at hl 4 rfl) ?_
      exact g_iret K hr hlk hI hz (by rw [← hres]; rfl) dX1_others_78
    · exact absurd h_9 (by decide)
  | succ n ih =>
    intro k acc H locs ls hkn hz hres hI hl
    refine lv_iload hE hB dX1_others_6 (lv_at hl 5 rfl) ?_
    refine lv_iconst (v := nI 4) hE hB dX1_others_8 (by decide) ?_
    refine n_ic_ge (tgt := 76) hE hB (by omega) (by omega) dX1_others_9 (by decide) (fun h_9 => ?_) (fun h_9 => ?_)
    · omega
    · refine lv_iload_n hE hB dX1_others_12 rfl (lv_at hl 3 rfl) ?_
      refine n_if_eq (tgt := 25) hE hB (by omega) dX1_others_13 (by decide) (fun h_13 => ?_) (fun h_13 => ?_)
      · refine lv_aload_n hE hB dX1_others_25 rfl (lv_at hl 0 rfl) ?_
        refine lv_iload hE hB dX1_others_26 (lv_at hl 5 rfl) ?_
        refine kX1_writeSet K hI (by omega) hM rfl hl.1 ⟨Nat.le_of_ble_eq_true rfl, Nat.le_of_ble_eq_true rfl⟩ (Nat.le_of_ble_eq_true rfl) ⟨Nat.zero_le _, Nat.zero_le _⟩ dX1_others_28 (fun H locs hI => ?_)
        refine lv_aload_n hE hB dX1_others_31 rfl (lv_at hl 0 rfl) ?_
        refine lv_iload hE hB dX1_others_32 (lv_at hl 5 rfl) ?_
        refine kX1_readSet K hI (by omega) hM rfl hl.1 ⟨Nat.le_of_ble_eq_true rfl, Nat.le_of_ble_eq_true rfl⟩ (Nat.le_of_ble_eq_true rfl) ⟨Nat.zero_le _, Nat.zero_le _⟩ dX1_others_34 (fun H locs hI => ?_)
        refine lv_ior hE hB dX1_others_37 ?_
        refine lv_istore (lv' := [(6, .int ((mws M k) ||| (mrs M k))), (0, .ref o), (1, .int (nI c)), (2, .int (nI x)), (3, .int (nI w)), (4, .int acc), (5, .int (nI k))]) hE hB dX1_others_38 hl (by decide) rfl (fun ls hl => ?_)
        refine lv_iload hE hB dX1_others_40 (lv_at hl 6 rfl) ?_
        refine lv_iload_n hE hB dX1_others_42 rfl (lv_at hl 2 rfl) ?_
        refine n_ic_eq (tgt := 66) hE hB (by omega) (by omega) dX1_others_43 (by decide) (fun h_43 => ?_) (fun h_43 => ?_)
        · refine lv_iload hE hB dX1_others_66 (lv_at hl 5 rfl) ?_
          refine lv_istore (lv' := [(4, .int acc), (6, .int ((mws M k) ||| (mrs M k))), (0, .ref o), (1, .int (nI c)), (2, .int (nI x)), (3, .int (nI w)), (5, .int (nI k))]) hE hB dX1_others_68 hl (by decide) rfl (fun ls hl => ?_)
          refine lv_iinc (v := (nI (k + 1))) (lv' := [(5, .int (nI (k + 1))), (4, .int acc), (6, .int ((mws M k) ||| (mrs M k))), (0, .ref o), (1, .int (nI c)), (2, .int (nI x)), (3, .int (nI w))]) hE hB dX1_others_70 hl (k := 6) rfl (nI_1 _) (by decide) rfl (fun ls hl => ?_)
          refine lv_goto (tgt := 6) hE hB dX1_others_73 (by decide) ?_
          exact ih (k + 1) acc H locs ls (by omega) hz (by rw [← hres]; simp [moL, moS, mth, h_9, h_13, h_43]) hI (lv_sub hl [3, 4, 5, 6, 1, 0] rfl)
        · refine lv_iload hE hB dX1_others_46 (lv_at hl 0 rfl) ?_
          refine lv_iload_n hE hB dX1_others_48 rfl (lv_at hl 3 rfl) ?_
          refine lv_ishr hE hB dX1_others_49 ?_
          refine lv_iconst (v := nI 1) hE hB dX1_others_50 (by decide) ?_
          refine n_bit hE hB (by omega) dX1_others_51 ?_
          refine lv_iconst (v := nI 1) hE hB dX1_others_52 (by decide) ?_
          refine n_ic_ne (tgt := 66) hE hB (Nat.lt_of_le_of_lt (bN_le _ _) (by decide)) (by decide) dX1_others_53 (by decide) (fun h_53 => ?_) (fun h_53 => ?_)
          · refine lv_iload hE hB dX1_others_66 (lv_at hl 5 rfl) ?_
            refine lv_istore (lv' := [(4, .int acc), (6, .int ((mws M k) ||| (mrs M k))), (0, .ref o), (1, .int (nI c)), (2, .int (nI x)), (3, .int (nI w)), (5, .int (nI k))]) hE hB dX1_others_68 hl (by decide) rfl (fun ls hl => ?_)
            refine lv_iinc (v := (nI (k + 1))) (lv' := [(5, .int (nI (k + 1))), (4, .int acc), (6, .int ((mws M k) ||| (mrs M k))), (0, .ref o), (1, .int (nI c)), (2, .int (nI x)), (3, .int (nI w))]) hE hB dX1_others_70 hl (k := 6) rfl (nI_1 _) (by decide) rfl (fun ls hl => ?_)
            refine lv_goto (tgt := 6) hE hB dX1_others_73 (by decide) ?_
            exact ih (k + 1) acc H locs ls (by omega) hz (by rw [← hres]; simp [moL, moS, mth, h_9, h_13, h_43, h_53]) hI (lv_sub hl [3, 4, 5, 6, 1, 0] rfl)
          · refine lv_iload hE hB dX1_others_56 (lv_at hl 5 rfl) ?_
            refine lv_iconst (v := nI 1) hE hB dX1_others_58 (by decide) ?_
            refine lv_iload hE hB dX1_others_59 (lv_at hl 6 rfl) ?_
            refine n_shl hE hB dX1_others_61 ?_
            refine lv_ior hE hB dX1_others_62 ?_
            refine lv_goto (tgt := 68) hE hB dX1_others_63 (by decide) ?_
            refine lv_istore (lv' := [(4, .int (acc ||| (b1 k))), (6, .int ((mws M k) ||| (mrs M k))), (0, .ref o), (1, .int (nI c)), (2, .int (nI x)), (3, .int (nI w)), (5, .int (nI k))]) hE hB dX1_others_68 hl (by decide) rfl (fun ls hl => ?_)
            refine lv_iinc (v := (nI (k + 1))) (lv' := [(5, .int (nI (k + 1))), (4, .int (acc ||| (b1 k))), (6, .int ((mws M k) ||| (mrs M k))), (0, .ref o), (1, .int (nI c)), (2, .int (nI x)), (3, .int (nI w))]) hE hB dX1_others_70 hl (k := 6) rfl (nI_1 _) (by decide) rfl (fun ls hl => ?_)
            refine lv_goto (tgt := 6) hE hB dX1_others_73 (by decide) ?_
            exact ih (k + 1) (acc ||| (b1 k)) H locs ls (by omega) hz (by rw [← hres]; simp [moL, moS, mth, h_9, h_13, h_43, h_53]) hI (lv_sub hl [3, 4, 5, 6, 1, 0] rfl)
      · refine lv_aload_n hE hB dX1_others_16 rfl (lv_at hl 0 rfl) ?_
        refine lv_iload hE hB dX1_others_17 (lv_at hl 5 rfl) ?_
        refine kX1_writeSet K hI (by omega) hM rfl hl.1 ⟨Nat.le_of_ble_eq_true rfl, Nat.le_of_ble_eq_true rfl⟩ (Nat.le_of_ble_eq_true rfl) ⟨Nat.zero_le _, Nat.zero_le _⟩ dX1_others_19 (fun H locs hI => ?_)
        refine lv_goto (tgt := 38) hE hB dX1_others_22 (by decide) ?_
        refine lv_istore (lv' := [(6, .int (mws M k)), (0, .ref o), (1, .int (nI c)), (2, .int (nI x)), (3, .int (nI w)), (4, .int acc), (5, .int (nI k))]) hE hB dX1_others_38 hl (by decide) rfl (fun ls hl => ?_)
        refine lv_iload hE hB dX1_others_40 (lv_at hl 6 rfl) ?_
        refine lv_iload_n hE hB dX1_others_42 rfl (lv_at hl 2 rfl) ?_
        refine n_ic_eq (tgt := 66) hE hB (by omega) (by omega) dX1_others_43 (by decide) (fun h_43 => ?_) (fun h_43 => ?_)
        · refine lv_iload hE hB dX1_others_66 (lv_at hl 5 rfl) ?_
          refine lv_istore (lv' := [(4, .int acc), (6, .int (mws M k)), (0, .ref o), (1, .int (nI c)), (2, .int (nI x)), (3, .int (nI w)), (5, .int (nI k))]) hE hB dX1_others_68 hl (by decide) rfl (fun ls hl => ?_)
          refine lv_iinc (v := (nI (k + 1))) (lv' := [(5, .int (nI (k + 1))), (4, .int acc), (6, .int (mws M k)), (0, .ref o), (1, .int (nI c)), (2, .int (nI x)), (3, .int (nI w))]) hE hB dX1_others_70 hl (k := 6) rfl (nI_1 _) (by decide) rfl (fun ls hl => ?_)
          refine lv_goto (tgt := 6) hE hB dX1_others_73 (by decide) ?_
          exact ih (k + 1) acc H locs ls (by omega) hz (by rw [← hres]; simp [moL, moS, mth, h_9, h_13, h_43]) hI (lv_sub hl [3, 4, 5, 6, 1, 0] rfl)
        · refine lv_iload hE hB dX1_others_46 (lv_at hl 0 rfl) ?_
          refine lv_iload_n hE hB dX1_others_48 rfl (lv_at hl 3 rfl) ?_
          refine lv_ishr hE hB dX1_others_49 ?_
          refine lv_iconst (v := nI 1) hE hB dX1_others_50 (by decide) ?_
          refine n_bit hE hB (by omega) dX1_others_51 ?_
          refine lv_iconst (v := nI 1) hE hB dX1_others_52 (by decide) ?_
          refine n_ic_ne (tgt := 66) hE hB (Nat.lt_of_le_of_lt (bN_le _ _) (by decide)) (by decide) dX1_others_53 (by decide) (fun h_53 => ?_) (fun h_53 => ?_)
          · refine lv_iload hE hB dX1_others_66 (lv_at hl 5 rfl) ?_
            refine lv_istore (lv' := [(4, .int acc), (6, .int (mws M k)), (0, .ref o), (1, .int (nI c)), (2, .int (nI x)), (3, .int (nI w)), (5, .int (nI k))]) hE hB dX1_others_68 hl (by decide) rfl (fun ls hl => ?_)
            refine lv_iinc (v := (nI (k + 1))) (lv' := [(5, .int (nI (k + 1))), (4, .int acc), (6, .int (mws M k)), (0, .ref o), (1, .int (nI c)), (2, .int (nI x)), (3, .int (nI w))]) hE hB dX1_others_70 hl (k := 6) rfl (nI_1 _) (by decide) rfl (fun ls hl => ?_)
            refine lv_goto (tgt := 6) hE hB dX1_others_73 (by decide) ?_
            exact ih (k + 1) acc H locs ls (by omega) hz (by rw [← hres]; simp [moL, moS, mth, h_9, h_13, h_43, h_53]) hI (lv_sub hl [3, 4, 5, 6, 1, 0] rfl)
          · refine lv_iload hE hB dX1_others_56 (lv_at hl 5 rfl) ?_
            refine lv_iconst (v := nI 1) hE hB dX1_others_58 (by decide) ?_
            refine lv_iload hE hB dX1_others_59 (lv_at hl 6 rfl) ?_
            refine n_shl hE hB dX1_others_61 ?_
            refine lv_ior hE hB dX1_others_62 ?_
            refine lv_goto (tgt := 68) hE hB dX1_others_63 (by decide) ?_
            refine lv_istore (lv' := [(4, .int (acc ||| (b1 k))), (6, .int (mws M k)), (0, .ref o), (1, .int (nI c)), (2, .int (nI x)), (3, .int (nI w)), (5, .int (nI k))]) hE hB dX1_others_68 hl (by decide) rfl (fun ls hl => ?_)
            refine lv_iinc (v := (nI (k + 1))) (lv' := [(5, .int (nI (k + 1))), (4, .int (acc ||| (b1 k))), (6, .int (mws M k)), (0, .ref o), (1, .int (nI c)), (2, .int (nI x)), (3, .int (nI w))]) hE hB dX1_others_70 hl (k := 6) rfl (nI_1 _) (by decide) rfl (fun ls hl => ?_)
            refine lv_goto (tgt := 6) hE hB dX1_others_73 (by decide) ?_
            exact ih (k + 1) (acc ||| (b1 k)) H locs ls (by omega) hz (by rw [← hres]; simp [moL, moS, mth, h_9, h_13, h_43, h_53]) hI (lv_sub hl [3, 4, 5, 6, 1, 0] rfl)
set_option maxHeartbeats 4000000 in
set_option maxRecDepth 100000 in
theorem met_X1_others {l : Launch} {D : va_G} {o : Nat} {a : Nat → Nat} {d : Nat → ClassId} {M : MS} {c x w : Nat} (hc : c < 4) (hx : x < 16) (hw : w < 2) (hM : WM M) : GMi l yX1_others (ws_ yX1_others cX1_others 7 (some .int)) (rmD 1) D (tysM d) (wM o a d M) [.ref o, .int (nI c), .int (nI x), .int (nI w)] (wM o a d M) (moth M c x w) := by
  refine GMi.of (by decide) (Nat.le_of_ble_eq_true rfl) ?_
  intro p e s m args below meth cd A ls K hr hlk hI hl
  have K : GC RX1 (tysM d) D A p s m args cd cX1_others 7 := K
  have hl : lv_has ls 7 [(0, .ref o), (1, .int (nI c)), (2, .int (nI x)), (3, .int (nI w))] := hl
  obtain ⟨hE, hB, hml, hown, hts, hK, hA⟩ := id K
  refine lv_iconst (v := nI 0) hE hB dX1_others_0 (by decide) ?_
  refine lv_istore (lv' := [(4, .int (nI 0)), (0, .ref o), (1, .int (nI c)), (2, .int (nI x)), (3, .int (nI w))]) hE hB dX1_others_1 hl (by decide) rfl (fun ls hl => ?_)
  refine lv_iconst (v := nI 0) hE hB dX1_others_3 (by decide) ?_
  refine lv_istore (lv' := [(5, .int (nI 0)), (4, .int (nI 0)), (0, .ref o), (1, .int (nI c)), (2, .int (nI x)), (3, .int (nI w))]) hE hB dX1_others_4 hl (by decide) rfl (fun ls hl => ?_)
  exact lpM_others K hr hlk hc hx hw hM 4 0 (nI 0) _ _ ls rfl rfl rfl hI (lv_sub hl [2, 3, 4, 5, 1, 0] rfl)
set_option maxHeartbeats 4000000 in
set_option maxRecDepth 100000 in
theorem kX1_others {p : Program} {l : Launch} {e : Env} {R : Room} {s : State} {m : MethodId} {args : Array Value} {below : List Frame} {meth : Method} {cd : Code} {H : Heap} {locs : List Loc} {cells slots : Nat} {Q : State → Prop} {cc : ByteArray} {pc : Nat} {ls : Array Slot} {rest : List Value} {D : va_G} {A : Nat → Prop} {nL : Nat} {o : Nat} {a : Nat → Nat} {d : Nat → ClassId} {M : MS} (K : GC RX1 (tysM d) D A p s m args cd cc nL) (hI : GI D A s.heap (wM o a d M) H locs) {c x w : Nat} (hc : c < 4) (hx : x < 16) (hw : w < 2) (hM : WM M) {v : Int32} (hv : moth M c x w = v) (hls : ls.size = nL) (hR : (rmD 1).frames + 1 ≤ R.frames ∧ 8 + (7 + 11) + (rmD 1).locals ≤ R.locals) (hroom : (rest.map fun v => v.category).sum ≤ 8) (hf : cells ≤ R.cells ∧ slots ≤ R.slots) (hdg : decode cc pc = .ok (.invokevirtual 39, 3)) (kk : ∀ (H : Heap) (locs : List Loc), GI D A s.heap (wM o a d M) H locs → W p l e R s m args below meth cd H locs cells slots Q (F0 m (pc + 3) ls (.int v :: rest))) : W p l e R s m args below meth cd H locs cells slots Q (F0 m pc ls (.int (nI w) :: .int (nI x) :: .int (nI c) :: .ref o :: rest)) := g_calli (ci := 1) (q0 := 0) (n := 3) (As := [.int (nI c), .int (nI x), .int (nI w)]) K hI (met_X1_others hc hx hw hM) hv (lw_V q228 q230 qs17 q23 q231) (by decide +kernel) ⟨rfl, rfl⟩ rfl rfl rfl rfl rfl hls hR hroom hf hdg kk
set_option maxHeartbeats 4000000 in
set_option maxRecDepth 100000 in
theorem met_X1_put {l : Launch} {D : va_G} {o : Nat} {a : Nat → Nat} {d : Nat → ClassId} {M : MS} {c x : Nat} {v : Int32} (hc : c < 4) (hx : x < 16) (hM : WM M) : GMv l yX1_put (ws_ yX1_put cX1_put 5 none) (rmD 0) D (tysM d) (wM o a d M) [.ref o, .int (nI c), .int (nI x), .int v] (wM o a d (mput M c x v)) := by
  refine GMv.of (by decide) (Nat.le_of_ble_eq_true rfl) ?_
  intro p e s m args below meth cd A ls K hr hlk hI hl
  have K : GC RX1 (tysM d) D A p s m args cd cX1_put 5 := K
  have hl : lv_has ls 5 [(0, .ref o), (1, .int (nI c)), (2, .int (nI x)), (3, .int v)] := hl
  obtain ⟨hE, hB, hml, hown, hts, hK, hA⟩ := id K
  have hlv := hM c hc
  refine lv_aload_n hE hB dX1_put_0 rfl (lv_at hl 0 rfl) ?_
  refine mg1 hE hB hts hown hK hI dX1_put_1 ?_
  refine lv_iload_n hE hB dX1_put_4 rfl (lv_at hl 1 rfl) ?_
  refine ml1 hE hB hK hI (i := c) (by omega) dX1_put_5 ?_
  refine n_if_ne (tgt := 19) hE hB (by omega) dX1_put_6 (by decide) (fun h_6 => ?_) (fun h_6 => ?_)
  · refine lv_iconst (v := nI 4) hE hB dX1_put_19 (by decide) ?_
    refine lv_iload_n hE hB dX1_put_20 rfl (lv_at hl 1 rfl) ?_
    refine n_mul hE hB dX1_put_21 ?_
    refine lv_aload_n hE hB dX1_put_22 rfl (lv_at hl 0 rfl) ?_
    refine mg1 hE hB hts hown hK hI dX1_put_23 ?_
    refine lv_iload_n hE hB dX1_put_26 rfl (lv_at hl 1 rfl) ?_
    refine ml1 hE hB hK hI (i := c) (by omega) dX1_put_27 ?_
    refine n_add hE hB dX1_put_28 ?_
    refine lv_istore (lv' := [(4, .int (nI ((4 * c) + (mL M c)))), (0, .ref o), (1, .int (nI c)), (2, .int (nI x)), (3, .int v)]) hE hB dX1_put_29 hl (by decide) rfl (fun ls hl => ?_)
    refine lv_aload_n hE hB dX1_put_31 rfl (lv_at hl 1 rfl) ?_
    refine mg3 hE hB hts hown hK hI dX1_put_32 ?_
    refine lv_iload hE hB dX1_put_35 (lv_at hl 0 rfl) ?_
    refine lv_aload_n hE hB dX1_put_37 rfl (lv_at hl 1 rfl) ?_
    refine mg3 hE hB hts hown hK hI dX1_put_38 ?_
    refine lv_iload hE hB dX1_put_41 (lv_at hl 0 rfl) ?_
    refine ml3 hE hB hK hI (i := ((4 * c) + (mL M c))) (by omega) dX1_put_43 ?_
    refine lv_iconst (v := nI 1) hE hB dX1_put_44 (by decide) ?_
    refine lv_iload_n hE hB dX1_put_45 rfl (lv_at hl 3 rfl) ?_
    refine n_shl hE hB dX1_put_46 ?_
    refine lv_ior hE hB dX1_put_47 ?_
    refine ms3 hE hB hK hI (i := ((4 * c) + (mL M c))) (v := ((mW M ((4 * c) + (mL M c))) ||| (b1 x))) (by omega) dX1_put_48 (fun H locs hI => ?_)
    have hI : GI D A s.heap (wM o a d (mM M, mL M, mR M, upd (mW M) ((4 * c) + (mL M c)) ((mW M ((4 * c) + (mL M c))) ||| (b1 x)), mV M)) H locs := hI
    refine lv_aload_n hE hB dX1_put_49 rfl (lv_at hl 1 rfl) ?_
    refine mg4 hE hB hts hown hK hI dX1_put_50 ?_
    refine lv_bipush (v := nI 16) hE hB dX1_put_53 (by decide) ?_
    refine lv_iload hE hB dX1_put_55 (lv_at hl 0 rfl) ?_
    refine n_mul hE hB dX1_put_57 ?_
    refine lv_iload_n hE hB dX1_put_58 rfl (lv_at hl 3 rfl) ?_
    refine n_add hE hB dX1_put_59 ?_
    refine lv_iload_n hE hB dX1_put_60 rfl (lv_at hl 4 rfl) ?_
    refine ms4 hE hB hK hI (i := ((16 * ((4 * c) + (mL M c))) + x)) (v := v) (by omega) dX1_put_61 (fun H locs hI => ?_)
    have hI : GI D A s.heap (wM o a d (mM M, mL M, mR M, upd (mW M) ((4 * c) + (mL M c)) ((mW M ((4 * c) + (mL M c))) ||| (b1 x)), upd (mV M) ((16 * ((4 * c) + (mL M c))) + x) v)) H locs := hI
    exact g_vret K hr hlk hI (by simp [mput, h_6]) dX1_put_62
  · refine lv_aload_n hE hB dX1_put_9 rfl (lv_at hl 0 rfl) ?_
    refine mg0 hE hB hts hown hK hI dX1_put_10 ?_
    refine lv_iload_n hE hB dX1_put_13 rfl (lv_at hl 2 rfl) ?_
    refine lv_iload_n hE hB dX1_put_14 rfl (lv_at hl 3 rfl) ?_
    refine ms0 hE hB hK hI (i := x) (v := v) (by omega) dX1_put_15 (fun H locs hI => ?_)
    have hI : GI D A s.heap (wM o a d (upd (mM M) x v, mL M, mR M, mW M, mV M)) H locs := hI
    refine lv_goto (tgt := 62) hE hB dX1_put_16 (by decide) ?_
    exact g_vret K hr hlk hI (by simp [mput, h_6]) dX1_put_62
set_option maxHeartbeats 4000000 in
set_option maxRecDepth 100000 in
theorem kX1_put {p : Program} {l : Launch} {e : Env} {R : Room} {s : State} {m : MethodId} {args : Array Value} {below : List Frame} {meth : Method} {cd : Code} {H : Heap} {locs : List Loc} {cells slots : Nat} {Q : State → Prop} {cc : ByteArray} {pc : Nat} {ls : Array Slot} {rest : List Value} {D : va_G} {A : Nat → Prop} {nL : Nat} {o : Nat} {a : Nat → Nat} {d : Nat → ClassId} {M : MS} (K : GC RX1 (tysM d) D A p s m args cd cc nL) (hI : GI D A s.heap (wM o a d M) H locs) {c x : Nat} {v : Int32} (hc : c < 4) (hx : x < 16) (hM : WM M) (hls : ls.size = nL) (hR : (rmD 0).frames + 1 ≤ R.frames ∧ 8 + (5 + 11) + (rmD 0).locals ≤ R.locals) (hroom : (rest.map fun v => v.category).sum ≤ 8) (hf : cells ≤ R.cells ∧ slots ≤ R.slots) (hdg : decode cc pc = .ok (.invokevirtual 43, 3)) (kk : ∀ (H : Heap) (locs : List Loc), GI D A s.heap (wM o a d (mput M c x v)) H locs → W p l e R s m args below meth cd H locs cells slots Q (F0 m (pc + 3) ls rest)) : W p l e R s m args below meth cd H locs cells slots Q (F0 m pc ls (.int v :: .int (nI x) :: .int (nI c) :: .ref o :: rest)) := g_callv (ci := 1) (q0 := 0) (n := 3) (As := [.int (nI c), .int (nI x), .int v]) K hI (met_X1_put hc hx hM) (lw_V q248 q250 qs20 q23 q251) (by decide +kernel) ⟨rfl, rfl⟩ rfl rfl rfl rfl rfl hls hR hroom hf hdg kk
set_option maxHeartbeats 4000000 in
set_option maxRecDepth 100000 in
theorem met_X1_begin {l : Launch} {D : va_G} {o : Nat} {a : Nat → Nat} {d : Nat → ClassId} {M : MS} {c : Nat} (hc : c < 4) (hM : WM M) : GMi l yX1_begin (ws_ yX1_begin cX1_begin 2 (some .int)) (rmD 1) D (tysM d) (wM o a d M) [.ref o, .int (nI c)] (wM o a d (mbgM M c)) (mbgR M c) := by
  refine GMi.of (by decide) (Nat.le_of_ble_eq_true rfl) ?_
  intro p e s m args below meth cd A ls K hr hlk hI hl
  have K : GC RX1 (tysM d) D A p s m args cd cX1_begin 2 := K
  have hl : lv_has ls 2 [(0, .ref o), (1, .int (nI c))] := hl
  obtain ⟨hE, hB, hml, hown, hts, hK, hA⟩ := id K
  have hlv := hM c hc
  refine lv_aload_n hE hB dX1_begin_0 rfl (lv_at hl 0 rfl) ?_
  refine lv_iload_n hE hB dX1_begin_1 rfl (lv_at hl 1 rfl) ?_
  refine kX1_core K hI  (v := (nI 1)) (congrArg nI (isI_ok (by omega) (by decide))) hl.1 ⟨Nat.le_of_ble_eq_true rfl, Nat.le_of_ble_eq_true rfl⟩ (Nat.le_of_ble_eq_true rfl) ⟨Nat.zero_le _, Nat.zero_le _⟩ dX1_begin_2 (fun H locs hI => ?_)
  refine n_if_eq (tgt := 18) hE hB (by omega) dX1_begin_5 (by decide) (fun h_5 => ?_) (fun h_5 => ?_)
  · exact absurd h_5 (by decide)
  · refine lv_aload_n hE hB dX1_begin_8 rfl (lv_at hl 0 rfl) ?_
    refine mg1 hE hB hts hown hK hI dX1_begin_9 ?_
    refine lv_iload_n hE hB dX1_begin_12 rfl (lv_at hl 1 rfl) ?_
    refine ml1 hE hB hK hI (i := c) (by omega) dX1_begin_13 ?_
    refine lv_iconst (v := nI 3) hE hB dX1_begin_14 (by decide) ?_
    refine n_ic_ne (tgt := 20) hE hB (by omega) (by omega) dX1_begin_15 (by decide) (fun h_15 => ?_) (fun h_15 => ?_)
    · refine lv_aload_n hE hB dX1_begin_20 rfl (lv_at hl 0 rfl) ?_
      refine mg1 hE hB hts hown hK hI dX1_begin_21 ?_
      refine lv_iload_n hE hB dX1_begin_24 rfl (lv_at hl 1 rfl) ?_
      refine lv_dup2_11 hE hB dX1_begin_25 rfl rfl ?_
      refine ml1 hE hB hK hI (i := c) (by omega) dX1_begin_26 ?_
      refine lv_iconst (v := nI 1) hE hB dX1_begin_27 (by decide) ?_
      refine n_add hE hB dX1_begin_28 ?_
      refine ms1 hE hB hK hI (i := c) (v := ((mL M c) + 1)) (by omega) dX1_begin_29 (fun H locs hI => ?_)
      have hI : GI D A s.heap (wM o a d (mM M, upN (mL M) c ((mL M c) + 1), mR M, mW M, mV M)) H locs := hI
      refine lv_aload_n hE hB dX1_begin_30 rfl (lv_at hl 0 rfl) ?_
      refine mg2 hE hB hts hown hK hI dX1_begin_31 ?_
      refine lv_iconst (v := nI 4) hE hB dX1_begin_34 (by decide) ?_
      refine lv_iload_n hE hB dX1_begin_35 rfl (lv_at hl 1 rfl) ?_
      refine n_mul hE hB dX1_begin_36 ?_
      refine lv_aload_n hE hB dX1_begin_37 rfl (lv_at hl 0 rfl) ?_
      refine mg1 hE hB hts hown hK hI dX1_begin_38 ?_
      refine lv_iload_n hE hB dX1_begin_41 rfl (lv_at hl 1 rfl) ?_
      refine ml1 hE hB hK hI (i := c) (by omega) dX1_begin_42 ?_
      refine n_top (y := (nI ((upN (mL M) c ((mL M c) + 1)) c))) rfl ?_
      refine n_top (y := (nI (mL M c + 1))) (congrArg nI upN_s) ?_
      refine n_add hE hB dX1_begin_43 ?_
      refine lv_iconst (v := nI 0) hE hB dX1_begin_44 (by decide) ?_
      refine ms2 hE hB hK hI (i := ((4 * c) + (mL M c + 1))) (v := (nI 0)) (by omega) dX1_begin_45 (fun H locs hI => ?_)
      have hI : GI D A s.heap (wM o a d (mM M, upN (mL M) c ((mL M c) + 1), upd (mR M) ((4 * c) + (mL M c + 1)) (nI 0), mW M, mV M)) H locs := hI
      refine lv_aload_n hE hB dX1_begin_46 rfl (lv_at hl 0 rfl) ?_
      refine mg3 hE hB hts hown hK hI dX1_begin_47 ?_
      refine lv_iconst (v := nI 4) hE hB dX1_begin_50 (by decide) ?_
      refine lv_iload_n hE hB dX1_begin_51 rfl (lv_at hl 1 rfl) ?_
      refine n_mul hE hB dX1_begin_52 ?_
      refine lv_aload_n hE hB dX1_begin_53 rfl (lv_at hl 0 rfl) ?_
      refine mg1 hE hB hts hown hK hI dX1_begin_54 ?_
      refine lv_iload_n hE hB dX1_begin_57 rfl (lv_at hl 1 rfl) ?_
      refine ml1 hE hB hK hI (i := c) (by omega) dX1_begin_58 ?_
      refine n_top (y := (nI ((upN (mL M) c ((mL M c) + 1)) c))) rfl ?_
      refine n_top (y := (nI (mL M c + 1))) (congrArg nI upN_s) ?_
      refine n_add hE hB dX1_begin_59 ?_
      refine lv_iconst (v := nI 0) hE hB dX1_begin_60 (by decide) ?_
      refine ms3 hE hB hK hI (i := ((4 * c) + (mL M c + 1))) (v := (nI 0)) (by omega) dX1_begin_61 (fun H locs hI => ?_)
      have hI : GI D A s.heap (wM o a d (mM M, upN (mL M) c ((mL M c) + 1), upd (mR M) ((4 * c) + (mL M c + 1)) (nI 0), upd (mW M) ((4 * c) + (mL M c + 1)) (nI 0), mV M)) H locs := hI
      refine lv_aload_n hE hB dX1_begin_62 rfl (lv_at hl 0 rfl) ?_
      refine mg1 hE hB hts hown hK hI dX1_begin_63 ?_
      refine lv_iload_n hE hB dX1_begin_66 rfl (lv_at hl 1 rfl) ?_
      refine ml1 hE hB hK hI (i := c) (by omega) dX1_begin_67 ?_
      refine n_top (y := (nI ((upN (mL M) c ((mL M c) + 1)) c))) rfl ?_
      refine n_top (y := (nI (mL M c + 1))) (congrArg nI upN_s) ?_
      exact g_iret K hr hlk hI (by simp [mbgM, h_5, h_15]) (by simp [mbgR, h_5, h_15]) dX1_begin_68
    · refine lv_iconst (v := -1) hE hB dX1_begin_18 (by decide) ?_
      exact g_iret K hr hlk hI (by simp [mbgM, h_5, h_15]) (by simp [mbgR, h_5, h_15]) dX1_begin_19
set_option maxHeartbeats 4000000 in
set_option maxRecDepth 100000 in
theorem met_X1_read {l : Launch} {D : va_G} {o : Nat} {a : Nat → Nat} {d : Nat → ClassId} {M : MS} {c x : Nat} (hc : c < 4) (hx : x < 16) (hM : WM M) : GMi l yX1_read (ws_ yX1_read cX1_read 4 (some .int)) (rmD 2) D (tysM d) (wM o a d M) [.ref o, .int (nI c), .int (nI x)] (wM o a d (mrdM M c x)) (mrdR M c x) := by
  refine GMi.of (by decide) (Nat.le_of_ble_eq_true rfl) ?_
  intro p e s m args below meth cd A ls K hr hlk hI hl
  have K : GC RX1 (tysM d) D A p s m args cd cX1_read 4 := K
  have hl : lv_has ls 4 [(0, .ref o), (1, .int (nI c)), (2, .int (nI x))] := hl
  obtain ⟨hE, hB, hml, hown, hts, hK, hA⟩ := id K
  have hlv := hM c hc
  refine lv_aload_n hE hB dX1_read_0 rfl (lv_at hl 0 rfl) ?_
  refine lv_iload_n hE hB dX1_read_1 rfl (lv_at hl 1 rfl) ?_
  refine kX1_core K hI  (v := (nI 1)) (congrArg nI (isI_ok (by omega) (by decide))) hl.1 ⟨Nat.le_of_ble_eq_true rfl, Nat.le_of_ble_eq_true rfl⟩ (Nat.le_of_ble_eq_true rfl) ⟨Nat.zero_le _, Nat.zero_le _⟩ dX1_read_2 (fun H locs hI => ?_)
  refine n_if_eq (tgt := 16) hE hB (by omega) dX1_read_5 (by decide) (fun h_5 => ?_) (fun h_5 => ?_)
  · exact absurd h_5 (by decide)
  · refine lv_aload_n hE hB dX1_read_8 rfl (lv_at hl 0 rfl) ?_
    refine lv_iload_n hE hB dX1_read_9 rfl (lv_at hl 2 rfl) ?_
    refine kX1_cell K hI  (v := (nI 1)) (congrArg nI (isI_ok (by omega) (by decide))) hl.1 ⟨Nat.le_of_ble_eq_true rfl, Nat.le_of_ble_eq_true rfl⟩ (Nat.le_of_ble_eq_true rfl) ⟨Nat.zero_le _, Nat.zero_le _⟩ dX1_read_10 (fun H locs hI => ?_)
    refine n_if_ne (tgt := 18) hE hB (by omega) dX1_read_13 (by decide) (fun h_13 => ?_) (fun h_13 => ?_)
    · refine lv_aload_n hE hB dX1_read_18 rfl (lv_at hl 0 rfl) ?_
      refine lv_iload_n hE hB dX1_read_19 rfl (lv_at hl 1 rfl) ?_
      refine lv_iload_n hE hB dX1_read_20 rfl (lv_at hl 2 rfl) ?_
      refine lv_iconst (v := nI 1) hE hB dX1_read_21 (by decide) ?_
      refine kX1_others K hI (by omega) (by omega) (by omega) hM rfl hl.1 ⟨Nat.le_of_ble_eq_true rfl, Nat.le_of_ble_eq_true rfl⟩ (Nat.le_of_ble_eq_true rfl) ⟨Nat.zero_le _, Nat.zero_le _⟩ dX1_read_22 (fun H locs hI => ?_)
      refine lv_if_eq (tgt := 31) hE hB dX1_read_25 (by decide) (fun h_25 => ?_) (fun h_25 => ?_)
      · refine lv_iconst (v := nI 4) hE hB dX1_read_31 (by decide) ?_
        refine lv_iload_n hE hB dX1_read_32 rfl (lv_at hl 1 rfl) ?_
        refine n_mul hE hB dX1_read_33 ?_
        refine lv_aload_n hE hB dX1_read_34 rfl (lv_at hl 0 rfl) ?_
        refine mg1 hE hB hts hown hK hI dX1_read_35 ?_
        refine lv_iload_n hE hB dX1_read_38 rfl (lv_at hl 1 rfl) ?_
        refine ml1 hE hB hK hI (i := c) (by omega) dX1_read_39 ?_
        refine n_add hE hB dX1_read_40 ?_
        refine lv_istore_n (lv' := [(3, .int (nI ((4 * c) + (mL M c)))), (0, .ref o), (1, .int (nI c)), (2, .int (nI x))]) hE hB dX1_read_41 rfl hl (by decide) rfl (fun ls hl => ?_)
        refine lv_aload_n hE hB dX1_read_42 rfl (lv_at hl 1 rfl) ?_
        refine mg2 hE hB hts hown hK hI dX1_read_43 ?_
        refine lv_iload_n hE hB dX1_read_46 rfl (lv_at hl 0 rfl) ?_
        refine lv_aload_n hE hB dX1_read_47 rfl (lv_at hl 1 rfl) ?_
        refine mg1 hE hB hts hown hK hI dX1_read_48 ?_
        refine lv_iload_n hE hB dX1_read_51 rfl (lv_at hl 2 rfl) ?_
        refine ml1 hE hB hK hI (i := c) (by omega) dX1_read_52 ?_
        refine n_if_le (tgt := 69) hE hB (by omega) dX1_read_53 (by decide) (fun h_53 => ?_) (fun h_53 => ?_)
        · refine lv_aload_n hE hB dX1_read_69 rfl (lv_at hl 1 rfl) ?_
          refine mg2 hE hB hts hown hK hI dX1_read_70 ?_
          refine lv_iload_n hE hB dX1_read_73 rfl (lv_at hl 0 rfl) ?_
          refine ml2 hE hB hK hI (i := ((4 * c) + (mL M c))) (by omega) dX1_read_74 ?_
          refine ms2 hE hB hK hI (i := ((4 * c) + (mL M c))) (v := (mR M ((4 * c) + (mL M c)))) (by omega) dX1_read_75 (fun H locs hI => ?_)
          have hI : GI D A s.heap (wM o a d (mM M, mL M, upd (mR M) ((4 * c) + (mL M c)) (mR M ((4 * c) + (mL M c))), mW M, mV M)) H locs := hI
          refine lv_iconst (v := nI 0) hE hB dX1_read_76 (by decide) ?_
          exact g_iret K hr hlk hI (by simp [mrdM, mrdA, h_5, h_13, h_25, h_53]) (by simp [mrdR, h_5, h_13, h_25, h_53]) dX1_read_77
        · refine lv_aload_n hE hB dX1_read_56 rfl (lv_at hl 1 rfl) ?_
          refine mg2 hE hB hts hown hK hI dX1_read_57 ?_
          refine lv_iload_n hE hB dX1_read_60 rfl (lv_at hl 0 rfl) ?_
          refine ml2 hE hB hK hI (i := ((4 * c) + (mL M c))) (by omega) dX1_read_61 ?_
          refine lv_iconst (v := nI 1) hE hB dX1_read_62 (by decide) ?_
          refine lv_iload_n hE hB dX1_read_63 rfl (lv_at hl 3 rfl) ?_
          refine n_shl hE hB dX1_read_64 ?_
          refine lv_ior hE hB dX1_read_65 ?_
          refine lv_goto (tgt := 75) hE hB dX1_read_66 (by decide) ?_
          refine ms2 hE hB hK hI (i := ((4 * c) + (mL M c))) (v := ((mR M ((4 * c) + (mL M c))) ||| (b1 x))) (by omega) dX1_read_75 (fun H locs hI => ?_)
          have hI : GI D A s.heap (wM o a d (mM M, mL M, upd (mR M) ((4 * c) + (mL M c)) ((mR M ((4 * c) + (mL M c))) ||| (b1 x)), mW M, mV M)) H locs := hI
          refine lv_iconst (v := nI 0) hE hB dX1_read_76 (by decide) ?_
          exact g_iret K hr hlk hI (by simp [mrdM, mrdA, h_5, h_13, h_25, h_53]) (by simp [mrdR, h_5, h_13, h_25, h_53]) dX1_read_77
      · refine lv_bipush (v := -2) hE hB dX1_read_28 (by decide) ?_
        exact g_iret K hr hlk hI (by simp [mrdM, mrdA, h_5, h_13, h_25]) (by simp [mrdR, h_5, h_13, h_25]) dX1_read_30
    · exact absurd h_13 (by decide)
set_option maxHeartbeats 4000000 in
set_option maxRecDepth 100000 in
theorem kX1_read {p : Program} {l : Launch} {e : Env} {R : Room} {s : State} {m : MethodId} {args : Array Value} {below : List Frame} {meth : Method} {cd : Code} {H : Heap} {locs : List Loc} {cells slots : Nat} {Q : State → Prop} {cc : ByteArray} {pc : Nat} {ls : Array Slot} {rest : List Value} {D : va_G} {A : Nat → Prop} {nL : Nat} {o : Nat} {a : Nat → Nat} {d : Nat → ClassId} {M : MS} (K : GC RX1 (tysM d) D A p s m args cd cc nL) (hI : GI D A s.heap (wM o a d M) H locs) {c x : Nat} (hc : c < 4) (hx : x < 16) (hM : WM M) {v : Int32} (hv : mrdR M c x = v) (hls : ls.size = nL) (hR : (rmD 2).frames + 1 ≤ R.frames ∧ 8 + (4 + 11) + (rmD 2).locals ≤ R.locals) (hroom : (rest.map fun v => v.category).sum ≤ 8) (hf : cells ≤ R.cells ∧ slots ≤ R.slots) (hdg : decode cc pc = .ok (.invokevirtual 51, 3)) (kk : ∀ (H : Heap) (locs : List Loc), GI D A s.heap (wM o a d (mrdM M c x)) H locs → W p l e R s m args below meth cd H locs cells slots Q (F0 m (pc + 3) ls (.int v :: rest))) : W p l e R s m args below meth cd H locs cells slots Q (F0 m pc ls (.int (nI x) :: .int (nI c) :: .ref o :: rest)) := g_calli (ci := 1) (q0 := 0) (n := 2) (As := [.int (nI c), .int (nI x)]) K hI (met_X1_read hc hx hM) hv (lw_V q257 q221 q222 q23 q223) (by decide +kernel) ⟨rfl, rfl⟩ rfl rfl rfl rfl rfl hls hR hroom hf hdg kk
set_option maxHeartbeats 4000000 in
set_option maxRecDepth 100000 in
theorem lpM_sees {p : Program} {l : Launch} {e : Env} {s : State} {m : MethodId} {args : Array Value} {below : List Frame} {meth : Method} {cd : Code} {D : va_G} {A : Nat → Prop} {o : Nat} {a : Nat → Nat} {d : Nat → ClassId} (K : GC RX1 (tysM d) D A p s m args cd cX1_sees 4) (hr : meth.sig.returnType = some .int) (hlk : meth.locks = false) {wz : va_W} {r : Int32} {M : MS} {c x : Nat} (hc : c < 4) (hx : x < 16) (hM : WM M) (hz : wM o a d M = wz) : ∀ (k : Nat) (H : Heap) (locs : List Loc) (ls : Array Slot), k ≤ mL M c → seL M c x k = r → GI D A s.heap (wM o a d M) H locs → lv_has ls 4 [(0, .ref o), (1, .int (nI c)), (2, .int (nI x)), (3, .int (nI k))] → W p l e (rmD 1) s m args below meth cd H locs 0 0 (MQ below (gQi D (tysM d) A wz r) args s 0 0 A) (F0 m 25 ls []) := by
  obtain ⟨hE, hB, hml, hown, hts, hK, hA⟩ := id K
  have hlv := hM c hc
  intro k
  induction k with
  | zero =>
    intro H locs ls hkn hres hI hl
    refine lv_iload_n hE hB dX1_sees_25 rfl (lv_at hl 3 rfl) ?_
    refine lv_iconst (v := nI 1) hE hB dX1_sees_26 (by decide) ?_
    refine n_ic_lt (tgt := 70) hE hB (by omega) (by omega) dX1_sees_27 (by decide) (fun h_27 => ?_) (fun h_27 => ?_)
    · refine lv_aload_n hE hB dX1_sees_70 rfl (lv_at hl 0 rfl) ?_
      refine mg0 hE hB hts hown hK hI dX1_sees_71 ?_
      refine lv_iload_n hE hB dX1_sees_74 rfl (lv_at hl 2 rfl) ?_
      refine ml0 hE hB hK hI (i := x) (by omega) dX1_sees_75 ?_
      exact g_iret K hr hlk hI hz (by rw [← hres]; rfl) dX1_sees_76
    · exact absurd h_27 (by decide)
  | succ k ih =>
    intro H locs ls hkn hres hI hl
    refine lv_iload_n hE hB dX1_sees_25 rfl (lv_at hl 3 rfl) ?_
    refine lv_iconst (v := nI 1) hE hB dX1_sees_26 (by decide) ?_
    refine n_ic_lt (tgt := 70) hE hB (by omega) (by omega) dX1_sees_27 (by decide) (fun h_27 => ?_) (fun h_27 => ?_)
    · omega
    · refine lv_aload_n hE hB dX1_sees_30 rfl (lv_at hl 0 rfl) ?_
      refine mg3 hE hB hts hown hK hI dX1_sees_31 ?_
      refine lv_iconst (v := nI 4) hE hB dX1_sees_34 (by decide) ?_
      refine lv_iload_n hE hB dX1_sees_35 rfl (lv_at hl 1 rfl) ?_
      refine n_mul hE hB dX1_sees_36 ?_
      refine lv_iload_n hE hB dX1_sees_37 rfl (lv_at hl 3 rfl) ?_
      refine n_add hE hB dX1_sees_38 ?_
      refine ml3 hE hB hK hI (i := ((4 * c) + (k + 1))) (by omega) dX1_sees_39 ?_
      refine lv_iload_n hE hB dX1_sees_40 rfl (lv_at hl 2 rfl) ?_
      refine lv_ishr hE hB dX1_sees_41 ?_
      refine lv_iconst (v := nI 1) hE hB dX1_sees_42 (by decide) ?_
      refine n_bit hE hB (by omega) dX1_sees_43 ?_
      refine lv_iconst (v := nI 1) hE hB dX1_sees_44 (by decide) ?_
      refine n_ic_ne (tgt := 64) hE hB (Nat.lt_of_le_of_lt (bN_le _ _) (by decide)) (by decide) dX1_sees_45 (by decide) (fun h_45 => ?_) (fun h_45 => ?_)
      · refine lv_iinc (v := (nI k)) (lv' := [(3, .int (nI k)), (0, .ref o), (1, .int (nI c)), (2, .int (nI x))]) hE hB dX1_sees_64 hl (k := 3) rfl (n_dec k) (by decide) rfl (fun ls hl => ?_)
        refine lv_goto (tgt := 25) hE hB dX1_sees_67 (by decide) ?_
        exact ih H locs ls (by omega) (by rw [← hres]; simp [seL, h_27, h_45]) hI (lv_sub hl [1, 2, 3, 0] rfl)
      · refine lv_aload_n hE hB dX1_sees_48 rfl (lv_at hl 0 rfl) ?_
        refine mg4 hE hB hts hown hK hI dX1_sees_49 ?_
        refine lv_bipush (v := nI 16) hE hB dX1_sees_52 (by decide) ?_
        refine lv_iconst (v := nI 4) hE hB dX1_sees_54 (by decide) ?_
        refine lv_iload_n hE hB dX1_sees_55 rfl (lv_at hl 1 rfl) ?_
        refine n_mul hE hB dX1_sees_56 ?_
        refine lv_iload_n hE hB dX1_sees_57 rfl (lv_at hl 3 rfl) ?_
        refine n_add hE hB dX1_sees_58 ?_
        refine n_mul hE hB dX1_sees_59 ?_
        refine lv_iload_n hE hB dX1_sees_60 rfl (lv_at hl 2 rfl) ?_
        refine n_add hE hB dX1_sees_61 ?_
        refine ml4 hE hB hK hI (i := ((16 * ((4 * c) + (k + 1))) + x)) (by omega) dX1_sees_62 ?_
        exact g_iret K hr hlk hI hz (by rw [← hres]; simp [seL, h_27, h_45]) dX1_sees_63
set_option maxHeartbeats 4000000 in
set_option maxRecDepth 100000 in
theorem met_X1_sees {l : Launch} {D : va_G} {o : Nat} {a : Nat → Nat} {d : Nat → ClassId} {M : MS} {c x : Nat} (hc : c < 4) (hx : x < 16) (hM : WM M) : GMi l yX1_sees (ws_ yX1_sees cX1_sees 4 (some .int)) (rmD 1) D (tysM d) (wM o a d M) [.ref o, .int (nI c), .int (nI x)] (wM o a d M) (seL M c x (mL M c)) := by
  refine GMi.of (by decide) (Nat.le_of_ble_eq_true rfl) ?_
  intro p e s m args below meth cd A ls K hr hlk hI hl
  have K : GC RX1 (tysM d) D A p s m args cd cX1_sees 4 := K
  have hl : lv_has ls 4 [(0, .ref o), (1, .int (nI c)), (2, .int (nI x))] := hl
  obtain ⟨hE, hB, hml, hown, hts, hK, hA⟩ := id K
  have hlv := hM c hc
  refine lv_aload_n hE hB dX1_sees_0 rfl (lv_at hl 0 rfl) ?_
  refine lv_iload_n hE hB dX1_sees_1 rfl (lv_at hl 1 rfl) ?_
  refine kX1_core K hI  (v := (nI 1)) (congrArg nI (isI_ok (by omega) (by decide))) hl.1 ⟨Nat.le_of_ble_eq_true rfl, Nat.le_of_ble_eq_true rfl⟩ (Nat.le_of_ble_eq_true rfl) ⟨Nat.zero_le _, Nat.zero_le _⟩ dX1_sees_2 (fun H locs hI => ?_)
  refine n_if_eq (tgt := 16) hE hB (by omega) dX1_sees_5 (by decide) (fun h_5 => ?_) (fun h_5 => ?_)
  · exact absurd h_5 (by decide)
  · refine lv_aload_n hE hB dX1_sees_8 rfl (lv_at hl 0 rfl) ?_
    refine lv_iload_n hE hB dX1_sees_9 rfl (lv_at hl 2 rfl) ?_
    refine kX1_cell K hI  (v := (nI 1)) (congrArg nI (isI_ok (by omega) (by decide))) hl.1 ⟨Nat.le_of_ble_eq_true rfl, Nat.le_of_ble_eq_true rfl⟩ (Nat.le_of_ble_eq_true rfl) ⟨Nat.zero_le _, Nat.zero_le _⟩ dX1_sees_10 (fun H locs hI => ?_)
    refine n_if_ne (tgt := 18) hE hB (by omega) dX1_sees_13 (by decide) (fun h_13 => ?_) (fun h_13 => ?_)
    · refine lv_aload_n hE hB dX1_sees_18 rfl (lv_at hl 0 rfl) ?_
      refine mg1 hE hB hts hown hK hI dX1_sees_19 ?_
      refine lv_iload_n hE hB dX1_sees_22 rfl (lv_at hl 1 rfl) ?_
      refine ml1 hE hB hK hI (i := c) (by omega) dX1_sees_23 ?_
      refine lv_istore_n (lv' := [(3, .int (nI (mL M c))), (0, .ref o), (1, .int (nI c)), (2, .int (nI x))]) hE hB dX1_sees_24 rfl hl (by decide) rfl (fun ls hl => ?_)
      exact lpM_sees K hr hlk hc hx hM rfl (mL M c) _ _ ls (Nat.le_refl _) rfl hI (lv_sub hl [1, 2, 3, 0] rfl)
    · exact absurd h_13 (by decide)
set_option maxHeartbeats 4000000 in
set_option maxRecDepth 100000 in
theorem kX1_sees {p : Program} {l : Launch} {e : Env} {R : Room} {s : State} {m : MethodId} {args : Array Value} {below : List Frame} {meth : Method} {cd : Code} {H : Heap} {locs : List Loc} {cells slots : Nat} {Q : State → Prop} {cc : ByteArray} {pc : Nat} {ls : Array Slot} {rest : List Value} {D : va_G} {A : Nat → Prop} {nL : Nat} {o : Nat} {a : Nat → Nat} {d : Nat → ClassId} {M : MS} (K : GC RX1 (tysM d) D A p s m args cd cc nL) (hI : GI D A s.heap (wM o a d M) H locs) {c x : Nat} (hc : c < 4) (hx : x < 16) (hM : WM M) {v : Int32} (hv : seL M c x (mL M c) = v) (hls : ls.size = nL) (hR : (rmD 1).frames + 1 ≤ R.frames ∧ 8 + (4 + 11) + (rmD 1).locals ≤ R.locals) (hroom : (rest.map fun v => v.category).sum ≤ 8) (hf : cells ≤ R.cells ∧ slots ≤ R.slots) (hdg : decode cc pc = .ok (.invokevirtual 47, 3)) (kk : ∀ (H : Heap) (locs : List Loc), GI D A s.heap (wM o a d M) H locs → W p l e R s m args below meth cd H locs cells slots Q (F0 m (pc + 3) ls (.int v :: rest))) : W p l e R s m args below meth cd H locs cells slots Q (F0 m pc ls (.int (nI x) :: .int (nI c) :: .ref o :: rest)) := g_calli (ci := 1) (q0 := 0) (n := 2) (As := [.int (nI c), .int (nI x)]) K hI (met_X1_sees hc hx hM) hv (lw_V q256 q241 q242 q23 q243) (by decide +kernel) ⟨rfl, rfl⟩ rfl rfl rfl rfl rfl hls hR hroom hf hdg kk
set_option maxHeartbeats 4000000 in
set_option maxRecDepth 100000 in
theorem met_X1_write {l : Launch} {D : va_G} {o : Nat} {a : Nat → Nat} {d : Nat → ClassId} {M : MS} {c x : Nat} {v : Int32} (hc : c < 4) (hx : x < 16) (hM : WM M) : GMi l yX1_write (ws_ yX1_write cX1_write 4 (some .int)) (rmD 3) D (tysM d) (wM o a d M) [.ref o, .int (nI c), .int (nI x), .int v] (wM o a d (mwrM M c x v)) (mwrR M c x) := by
  refine GMi.of (by decide) (Nat.le_of_ble_eq_true rfl) ?_
  intro p e s m args below meth cd A ls K hr hlk hI hl
  have K : GC RX1 (tysM d) D A p s m args cd cX1_write 4 := K
  have hl : lv_has ls 4 [(0, .ref o), (1, .int (nI c)), (2, .int (nI x)), (3, .int v)] := hl
  obtain ⟨hE, hB, hml, hown, hts, hK, hA⟩ := id K
  refine lv_aload_n hE hB dX1_write_0 rfl (lv_at hl 0 rfl) ?_
  refine lv_iload_n hE hB dX1_write_1 rfl (lv_at hl 1 rfl) ?_
  refine kX1_core K hI  (v := (nI 1)) (congrArg nI (isI_ok (by omega) (by decide))) hl.1 ⟨Nat.le_of_ble_eq_true rfl, Nat.le_of_ble_eq_true rfl⟩ (Nat.le_of_ble_eq_true rfl) ⟨Nat.zero_le _, Nat.zero_le _⟩ dX1_write_2 (fun H locs hI => ?_)
  refine n_if_eq (tgt := 16) hE hB (by omega) dX1_write_5 (by decide) (fun h_5 => ?_) (fun h_5 => ?_)
  · exact absurd h_5 (by decide)
  · refine lv_aload_n hE hB dX1_write_8 rfl (lv_at hl 0 rfl) ?_
    refine lv_iload_n hE hB dX1_write_9 rfl (lv_at hl 2 rfl) ?_
    refine kX1_cell K hI  (v := (nI 1)) (congrArg nI (isI_ok (by omega) (by decide))) hl.1 ⟨Nat.le_of_ble_eq_true rfl, Nat.le_of_ble_eq_true rfl⟩ (Nat.le_of_ble_eq_true rfl) ⟨Nat.zero_le _, Nat.zero_le _⟩ dX1_write_10 (fun H locs hI => ?_)
    refine n_if_ne (tgt := 18) hE hB (by omega) dX1_write_13 (by decide) (fun h_13 => ?_) (fun h_13 => ?_)
    · refine lv_aload_n hE hB dX1_write_18 rfl (lv_at hl 0 rfl) ?_
      refine lv_iload_n hE hB dX1_write_19 rfl (lv_at hl 1 rfl) ?_
      refine lv_iload_n hE hB dX1_write_20 rfl (lv_at hl 2 rfl) ?_
      refine lv_iconst (v := nI 0) hE hB dX1_write_21 (by decide) ?_
      refine kX1_others K hI (by omega) (by omega) (by omega) hM rfl hl.1 ⟨Nat.le_of_ble_eq_true rfl, Nat.le_of_ble_eq_true rfl⟩ (Nat.le_of_ble_eq_true rfl) ⟨Nat.zero_le _, Nat.zero_le _⟩ dX1_write_22 (fun H locs hI => ?_)
      refine lv_if_eq (tgt := 31) hE hB dX1_write_25 (by decide) (fun h_25 => ?_) (fun h_25 => ?_)
      · refine lv_aload_n hE hB dX1_write_31 rfl (lv_at hl 0 rfl) ?_
        refine lv_iload_n hE hB dX1_write_32 rfl (lv_at hl 1 rfl) ?_
        refine lv_iload_n hE hB dX1_write_33 rfl (lv_at hl 2 rfl) ?_
        refine lv_iload_n hE hB dX1_write_34 rfl (lv_at hl 3 rfl) ?_
        refine kX1_put K hI (by omega) (by omega) hM hl.1 ⟨Nat.le_of_ble_eq_true rfl, Nat.le_of_ble_eq_true rfl⟩ (Nat.le_of_ble_eq_true rfl) ⟨Nat.zero_le _, Nat.zero_le _⟩ dX1_write_35 (fun H locs hI => ?_)
        refine lv_iconst (v := nI 0) hE hB dX1_write_38 (by decide) ?_
        exact g_iret K hr hlk hI (by simp [mwrM, h_5, h_13, h_25]) (by simp [mwrR, h_5, h_13, h_25]) dX1_write_39
      · refine lv_bipush (v := -2) hE hB dX1_write_28 (by decide) ?_
        exact g_iret K hr hlk hI (by simp [mwrM, h_5, h_13, h_25]) (by simp [mwrR, h_5, h_13, h_25]) dX1_write_30
    · exact absurd h_13 (by decide)
set_option maxHeartbeats 4000000 in
set_option maxRecDepth 100000 in
theorem met_X1_add {l : Launch} {D : va_G} {o : Nat} {a : Nat → Nat} {d : Nat → ClassId} {M : MS} {c x : Nat} {v : Int32} (hc : c < 4) (hx : x < 16) (hM : WM M) : GMi l yX1_add (ws_ yX1_add cX1_add 5 (some .int)) (rmD 3) D (tysM d) (wM o a d M) [.ref o, .int (nI c), .int (nI x), .int v] (wM o a d (madM M c x v)) (mwrR M c x) := by
  refine GMi.of (by decide) (Nat.le_of_ble_eq_true rfl) ?_
  intro p e s m args below meth cd A ls K hr hlk hI hl
  have K : GC RX1 (tysM d) D A p s m args cd cX1_add 5 := K
  have hl : lv_has ls 5 [(0, .ref o), (1, .int (nI c)), (2, .int (nI x)), (3, .int v)] := hl
  obtain ⟨hE, hB, hml, hown, hts, hK, hA⟩ := id K
  refine lv_aload_n hE hB dX1_add_0 rfl (lv_at hl 0 rfl) ?_
  refine lv_iload_n hE hB dX1_add_1 rfl (lv_at hl 1 rfl) ?_
  refine kX1_core K hI  (v := (nI 1)) (congrArg nI (isI_ok (by omega) (by decide))) hl.1 ⟨Nat.le_of_ble_eq_true rfl, Nat.le_of_ble_eq_true rfl⟩ (Nat.le_of_ble_eq_true rfl) ⟨Nat.zero_le _, Nat.zero_le _⟩ dX1_add_2 (fun H locs hI => ?_)
  refine n_if_eq (tgt := 16) hE hB (by omega) dX1_add_5 (by decide) (fun h_5 => ?_) (fun h_5 => ?_)
  · exact absurd h_5 (by decide)
  · refine lv_aload_n hE hB dX1_add_8 rfl (lv_at hl 0 rfl) ?_
    refine lv_iload_n hE hB dX1_add_9 rfl (lv_at hl 2 rfl) ?_
    refine kX1_cell K hI  (v := (nI 1)) (congrArg nI (isI_ok (by omega) (by decide))) hl.1 ⟨Nat.le_of_ble_eq_true rfl, Nat.le_of_ble_eq_true rfl⟩ (Nat.le_of_ble_eq_true rfl) ⟨Nat.zero_le _, Nat.zero_le _⟩ dX1_add_10 (fun H locs hI => ?_)
    refine n_if_ne (tgt := 18) hE hB (by omega) dX1_add_13 (by decide) (fun h_13 => ?_) (fun h_13 => ?_)
    · refine lv_aload_n hE hB dX1_add_18 rfl (lv_at hl 0 rfl) ?_
      refine lv_iload_n hE hB dX1_add_19 rfl (lv_at hl 1 rfl) ?_
      refine lv_iload_n hE hB dX1_add_20 rfl (lv_at hl 2 rfl) ?_
      refine lv_iconst (v := nI 0) hE hB dX1_add_21 (by decide) ?_
      refine kX1_others K hI (by omega) (by omega) (by omega) hM rfl hl.1 ⟨Nat.le_of_ble_eq_true rfl, Nat.le_of_ble_eq_true rfl⟩ (Nat.le_of_ble_eq_true rfl) ⟨Nat.zero_le _, Nat.zero_le _⟩ dX1_add_22 (fun H locs hI => ?_)
      refine lv_if_eq (tgt := 31) hE hB dX1_add_25 (by decide) (fun h_25 => ?_) (fun h_25 => ?_)
      · refine lv_aload_n hE hB dX1_add_31 rfl (lv_at hl 0 rfl) ?_
        refine lv_iload_n hE hB dX1_add_32 rfl (lv_at hl 1 rfl) ?_
        refine lv_iload_n hE hB dX1_add_33 rfl (lv_at hl 2 rfl) ?_
        refine kX1_sees K hI (by omega) (by omega) hM rfl hl.1 ⟨Nat.le_of_ble_eq_true rfl, Nat.le_of_ble_eq_true rfl⟩ (Nat.le_of_ble_eq_true rfl) ⟨Nat.zero_le _, Nat.zero_le _⟩ dX1_add_34 (fun H locs hI => ?_)
        refine lv_iload_n hE hB dX1_add_37 rfl (lv_at hl 3 rfl) ?_
        refine lv_iadd hE hB dX1_add_38 ?_
        refine lv_istore (lv' := [(4, .int ((seL M c x (mL M c)) + v)), (0, .ref o), (1, .int (nI c)), (2, .int (nI x)), (3, .int v)]) hE hB dX1_add_39 hl (by decide) rfl (fun ls hl => ?_)
        refine lv_aload_n hE hB dX1_add_41 rfl (lv_at hl 1 rfl) ?_
        refine lv_iload_n hE hB dX1_add_42 rfl (lv_at hl 2 rfl) ?_
        refine lv_iload_n hE hB dX1_add_43 rfl (lv_at hl 3 rfl) ?_
        refine kX1_read K hI (by omega) (by omega) hM rfl hl.1 ⟨Nat.le_of_ble_eq_true rfl, Nat.le_of_ble_eq_true rfl⟩ (Nat.le_of_ble_eq_true rfl) ⟨Nat.zero_le _, Nat.zero_le _⟩ dX1_add_44 (fun H locs hI => ?_)
        refine lv_pop hE hB dX1_add_47 rfl ?_
        refine lv_aload_n hE hB dX1_add_48 rfl (lv_at hl 1 rfl) ?_
        refine lv_iload_n hE hB dX1_add_49 rfl (lv_at hl 2 rfl) ?_
        refine lv_iload_n hE hB dX1_add_50 rfl (lv_at hl 3 rfl) ?_
        refine lv_iload hE hB dX1_add_51 (lv_at hl 0 rfl) ?_
        refine kX1_put K hI (by omega) (by omega) (WM_rd hM _ _) hl.1 ⟨Nat.le_of_ble_eq_true rfl, Nat.le_of_ble_eq_true rfl⟩ (Nat.le_of_ble_eq_true rfl) ⟨Nat.zero_le _, Nat.zero_le _⟩ dX1_add_53 (fun H locs hI => ?_)
        refine lv_iconst (v := nI 0) hE hB dX1_add_56 (by decide) ?_
        exact g_iret K hr hlk hI (by simp [madM, h_5, h_13, h_25]) (by simp [mwrR, h_5, h_13, h_25]) dX1_add_57
      · refine lv_bipush (v := -2) hE hB dX1_add_28 (by decide) ?_
        exact g_iret K hr hlk hI (by simp [madM, h_5, h_13, h_25]) (by simp [mwrR, h_5, h_13, h_25]) dX1_add_30
    · exact absurd h_13 (by decide)
set_option maxHeartbeats 4000000 in
set_option maxRecDepth 100000 in
theorem met_X1_end_z {l : Launch} {D : va_G} {o : Nat} {a : Nat → Nat} {d : Nat → ClassId} {M : MS} {c : Nat} (hc : c < 4) (h0 : mL M c = 0) : GMi l yX1_end (ws_ yX1_end cX1_end 4 (some .int)) (rmD 1) D (tysM d) (wM o a d M) [.ref o, .int (nI c)] (wM o a d M) (-1) := by
  refine GMi.of (by decide) (Nat.le_of_ble_eq_true rfl) ?_
  intro p e s m args below meth cd A ls K hr hlk hI hl
  have K : GC RX1 (tysM d) D A p s m args cd cX1_end 4 := K
  have hl : lv_has ls 4 [(0, .ref o), (1, .int (nI c))] := hl
  obtain ⟨hE, hB, hml, hown, hts, hK, hA⟩ := id K
  refine lv_aload_n hE hB dX1_end_0 rfl (lv_at hl 0 rfl) ?_
  refine lv_iload_n hE hB dX1_end_1 rfl (lv_at hl 1 rfl) ?_
  refine kX1_core K hI  (v := (nI 1)) (congrArg nI (isI_ok (by omega) (by decide))) hl.1 ⟨Nat.le_of_ble_eq_true rfl, Nat.le_of_ble_eq_true rfl⟩ (Nat.le_of_ble_eq_true rfl) ⟨Nat.zero_le _, Nat.zero_le _⟩ dX1_end_2 (fun H locs hI => ?_)
  refine n_if_eq (tgt := 17) hE hB (by omega) dX1_end_5 (by decide) (fun h_5 => ?_) (fun h_5 => ?_)
  · exact absurd h_5 (by decide)
  · refine lv_aload_n hE hB dX1_end_8 rfl (lv_at hl 0 rfl) ?_
    refine mg1 hE hB hts hown hK hI dX1_end_9 ?_
    refine lv_iload_n hE hB dX1_end_12 rfl (lv_at hl 1 rfl) ?_
    refine ml1 hE hB hK hI (i := c) (by omega) dX1_end_13 ?_
    refine n_if_ne (tgt := 19) hE hB (by omega) dX1_end_14 (by decide) (fun h_14 => ?_) (fun h_14 => ?_)
    · exact absurd h0 h_14
    · refine lv_iconst (v := -1) hE hB dX1_end_17 (by decide) ?_
      exact g_iret K hr hlk hI rfl rfl dX1_end_18
set_option maxHeartbeats 4000000 in
set_option maxRecDepth 100000 in
theorem lpM_end {p : Program} {l : Launch} {e : Env} {s : State} {m : MethodId} {args : Array Value} {below : List Frame} {meth : Method} {cd : Code} {D : va_G} {A : Nat → Prop} {o : Nat} {a : Nat → Nat} {d : Nat → ClassId} (K : GC RX1 (tysM d) D A p s m args cd cX1_end 4) (hr : meth.sig.returnType = some .int) (hlk : meth.locks = false) {wz : va_W} {r : Int32} {c q : Nat} (hc : c < 4) (hq1 : 1 ≤ q) (hq : q < 16) : ∀ (n k : Nat) (M : MS) (H : Heap) (locs : List Loc) (ls : Array Slot), k + n = 16 → WM M → wM o a d (menE (menL c q n k M) c q) = wz → nI (mL (menL c q n k M) c) = r → GI D A s.heap (wM o a d M) H locs → lv_has ls 4 [(0, .ref o), (1, .int (nI c)), (2, .int (nI q)), (3, .int (nI k))] → W p l e (rmD 1) s m args below meth cd H locs 0 0 (MQ below (gQi D (tysM d) A wz r) args s 0 0 A) (F0 m 42 ls []) := by
  obtain ⟨hE, hB, hml, hown, hts, hK, hA⟩ := id K
  intro n
  induction n with
  | zero =>
    intro k M H locs ls hkn hM hz hres hI hl
    obtain rfl : k = 16 := by omega
    have hlv := hM c hc
    refine lv_iload_n hE hB dX1_end_42 rfl (lv_at hl 3 rfl) ?_
    refine lv_bipush (v := nI 16) hE hB dX1_end_43 (by decide) ?_
    refine n_ic_ge (tgt := 85) hE hB (by omega) (by omega) dX1_end_45 (by decide) (fun h_45 => ?_) (fun h_45 => ?_)
    · refine lv_aload_n hE hB dX1_end_85 rfl (lv_at hl 0 rfl) ?_
      refine mg2 hE hB hts hown hK hI dX1_end_86 ?_
      refine lv_iload_n hE hB dX1_end_89 rfl (lv_at hl 2 rfl) ?_
      refine lv_iconst (v := nI 1) hE hB dX1_end_90 (by decide) ?_
      refine n_sub hE hB (by omega) dX1_end_91 ?_
      refine lv_aload_n hE hB dX1_end_92 rfl (lv_at hl 0 rfl) ?_
      refine mg1 hE hB hts hown hK hI dX1_end_93 ?_
      refine lv_iload_n hE hB dX1_end_96 rfl (lv_at hl 1 rfl) ?_
      refine ml1 hE hB hK hI (i := c) (by omega) dX1_end_97 ?_
      refine n_if_le (tgt := 119) hE hB (by omega) dX1_end_98 (by decide) (fun h_98 => ?_) (fun h_98 => ?_)
      · refine lv_aload_n hE hB dX1_end_119 rfl (lv_at hl 0 rfl) ?_
        refine mg2 hE hB hts hown hK hI dX1_end_120 ?_
        refine lv_iload_n hE hB dX1_end_123 rfl (lv_at hl 2 rfl) ?_
        refine lv_iconst (v := nI 1) hE hB dX1_end_124 (by decide) ?_
        refine n_sub hE hB (by omega) dX1_end_125 ?_
        refine ml2 hE hB hK hI (i := (q - 1)) (by omega) dX1_end_126 ?_
        refine ms2 hE hB hK hI (i := (q - 1)) (v := (mR M (q - 1))) (by omega) dX1_end_127 (fun H locs hI => ?_)
        have hI : GI D A s.heap (wM o a d (mM M, mL M, upd (mR M) (q - 1) (mR M (q - 1)), mW M, mV M)) H locs := hI
        refine lv_aload_n hE hB dX1_end_128 rfl (lv_at hl 0 rfl) ?_
        refine mg1 hE hB hts hown hK hI dX1_end_129 ?_
        refine lv_iload_n hE hB dX1_end_132 rfl (lv_at hl 1 rfl) ?_
        refine ml1 hE hB hK hI (i := c) (by omega) dX1_end_133 ?_
        refine n_top (y := (nI (mL M c))) rfl ?_
        exact g_iret K hr hlk hI (by rw [← hz]; simp [menL, menE, h_45, h_98]) (by rw [← hres]; rfl) dX1_end_134
      · refine lv_aload_n hE hB dX1_end_101 rfl (lv_at hl 0 rfl) ?_
        refine mg2 hE hB hts hown hK hI dX1_end_102 ?_
        refine lv_iload_n hE hB dX1_end_105 rfl (lv_at hl 2 rfl) ?_
        refine lv_iconst (v := nI 1) hE hB dX1_end_106 (by decide) ?_
        refine n_sub hE hB (by omega) dX1_end_107 ?_
        refine ml2 hE hB hK hI (i := (q - 1)) (by omega) dX1_end_108 ?_
        refine lv_aload_n hE hB dX1_end_109 rfl (lv_at hl 0 rfl) ?_
        refine mg2 hE hB hts hown hK hI dX1_end_110 ?_
        refine lv_iload_n hE hB dX1_end_113 rfl (lv_at hl 2 rfl) ?_
        refine ml2 hE hB hK hI (i := q) (by omega) dX1_end_114 ?_
        refine lv_ior hE hB dX1_end_115 ?_
        refine lv_goto (tgt := 127) hE hB dX1_end_116 (by decide) ?_
        refine ms2 hE hB hK hI (i := (q - 1)) (v := ((mR M (q - 1)) ||| (mR M q))) (by omega) dX1_end_127 (fun H locs hI => ?_)
        have hI : GI D A s.heap (wM o a d (mM M, mL M, upd (mR M) (q - 1) ((mR M (q - 1)) ||| (mR M q)), mW M, mV M)) H locs := hI
        refine lv_aload_n hE hB dX1_end_128 rfl (lv_at hl 0 rfl) ?_
        refine mg1 hE hB hts hown hK hI dX1_end_129 ?_
        refine lv_iload_n hE hB dX1_end_132 rfl (lv_at hl 1 rfl) ?_
        refine ml1 hE hB hK hI (i := c) (by omega) dX1_end_133 ?_
        refine n_top (y := (nI (mL M c))) rfl ?_
        exact g_iret K hr hlk hI (by rw [← hz]; simp [menL, menE, h_45, h_98]) (by rw [← hres]; rfl) dX1_end_134
    · exact absurd h_45 (by decide)
  | succ n ih =>
    intro k M H locs ls hkn hM hz hres hI hl
    have hlv := hM c hc
    refine lv_iload_n hE hB dX1_end_42 rfl (lv_at hl 3 rfl) ?_
    refine lv_bipush (v := nI 16) hE hB dX1_end_43 (by decide) ?_
    refine n_ic_ge (tgt := 85) hE hB (by omega) (by omega) dX1_end_45 (by decide) (fun h_45 => ?_) (fun h_45 => ?_)
    · omega
    · refine lv_aload_n hE hB dX1_end_48 rfl (lv_at hl 0 rfl) ?_
      refine mg3 hE hB hts hown hK hI dX1_end_49 ?_
      refine lv_iload_n hE hB dX1_end_52 rfl (lv_at hl 2 rfl) ?_
      refine ml3 hE hB hK hI (i := q) (by omega) dX1_end_53 ?_
      refine lv_iload_n hE hB dX1_end_54 rfl (lv_at hl 3 rfl) ?_
      refine lv_ishr hE hB dX1_end_55 ?_
      refine lv_iconst (v := nI 1) hE hB dX1_end_56 (by decide) ?_
      refine n_bit hE hB (by omega) dX1_end_57 ?_
      refine lv_iconst (v := nI 1) hE hB dX1_end_58 (by decide) ?_
      refine n_ic_ne (tgt := 79) hE hB (Nat.lt_of_le_of_lt (bN_le _ _) (by decide)) (by decide) dX1_end_59 (by decide) (fun h_59 => ?_) (fun h_59 => ?_)
      · refine lv_iinc (v := (nI (k + 1))) (lv' := [(3, .int (nI (k + 1))), (0, .ref o), (1, .int (nI c)), (2, .int (nI q))]) hE hB dX1_end_79 hl (k := 3) rfl (nI_1 _) (by decide) rfl (fun ls hl => ?_)
        refine lv_goto (tgt := 42) hE hB dX1_end_82 (by decide) ?_
        exact ih (k + 1) M H locs ls (by omega) hM (by rw [← hz]; simp [menL, h_45, h_59]) (by rw [← hres]; simp [menL, h_45, h_59]) hI (lv_sub hl [1, 2, 3, 0] rfl)
      · refine lv_aload_n hE hB dX1_end_62 rfl (lv_at hl 0 rfl) ?_
        refine lv_iload_n hE hB dX1_end_63 rfl (lv_at hl 1 rfl) ?_
        refine lv_iload_n hE hB dX1_end_64 rfl (lv_at hl 3 rfl) ?_
        refine lv_aload_n hE hB dX1_end_65 rfl (lv_at hl 0 rfl) ?_
        refine mg4 hE hB hts hown hK hI dX1_end_66 ?_
        refine lv_bipush (v := nI 16) hE hB dX1_end_69 (by decide) ?_
        refine lv_iload_n hE hB dX1_end_71 rfl (lv_at hl 2 rfl) ?_
        refine n_mul hE hB dX1_end_72 ?_
        refine lv_iload_n hE hB dX1_end_73 rfl (lv_at hl 3 rfl) ?_
        refine n_add hE hB dX1_end_74 ?_
        refine ml4 hE hB hK hI (i := ((16 * q) + k)) (by omega) dX1_end_75 ?_
        refine kX1_put K hI (by omega) (by omega) hM hl.1 ⟨Nat.le_of_ble_eq_true rfl, Nat.le_of_ble_eq_true rfl⟩ (Nat.le_of_ble_eq_true rfl) ⟨Nat.zero_le _, Nat.zero_le _⟩ dX1_end_76 (fun H locs hI => ?_)
        refine lv_iinc (v := (nI (k + 1))) (lv' := [(3, .int (nI (k + 1))), (0, .ref o), (1, .int (nI c)), (2, .int (nI q))]) hE hB dX1_end_79 hl (k := 3) rfl (nI_1 _) (by decide) rfl (fun ls hl => ?_)
        refine lv_goto (tgt := 42) hE hB dX1_end_82 (by decide) ?_
        exact ih (k + 1) (mput M c k (mV M (16 * q + k))) H locs ls (by omega) (WM_put hM _ _ _) (by rw [← hz]; simp [menL, h_45, h_59]) (by rw [← hres]; simp [menL, h_45, h_59]) hI (lv_sub hl [1, 2, 3, 0] rfl)
set_option maxHeartbeats 4000000 in
set_option maxRecDepth 100000 in
theorem met_X1_end {l : Launch} {D : va_G} {o : Nat} {a : Nat → Nat} {d : Nat → ClassId} {M : MS} {c : Nat} (hc : c < 4) (hM : WM M) (h0 : mL M c ≠ 0) : GMi l yX1_end (ws_ yX1_end cX1_end 4 (some .int)) (rmD 1) D (tysM d) (wM o a d M) [.ref o, .int (nI c)] (wM o a d (menM M c)) (nI (mL (menM M c) c)) := by
  refine GMi.of (by decide) (Nat.le_of_ble_eq_true rfl) ?_
  intro p e s m args below meth cd A ls K hr hlk hI hl
  have K : GC RX1 (tysM d) D A p s m args cd cX1_end 4 := K
  have hl : lv_has ls 4 [(0, .ref o), (1, .int (nI c))] := hl
  obtain ⟨hE, hB, hml, hown, hts, hK, hA⟩ := id K
  have hlv := hM c hc
  refine lv_aload_n hE hB dX1_end_0 rfl (lv_at hl 0 rfl) ?_
  refine lv_iload_n hE hB dX1_end_1 rfl (lv_at hl 1 rfl) ?_
  refine kX1_core K hI  (v := (nI 1)) (congrArg nI (isI_ok (by omega) (by decide))) hl.1 ⟨Nat.le_of_ble_eq_true rfl, Nat.le_of_ble_eq_true rfl⟩ (Nat.le_of_ble_eq_true rfl) ⟨Nat.zero_le _, Nat.zero_le _⟩ dX1_end_2 (fun H locs hI => ?_)
  refine n_if_eq (tgt := 17) hE hB (by omega) dX1_end_5 (by decide) (fun h_5 => ?_) (fun h_5 => ?_)
  · exact absurd h_5 (by decide)
  · refine lv_aload_n hE hB dX1_end_8 rfl (lv_at hl 0 rfl) ?_
    refine mg1 hE hB hts hown hK hI dX1_end_9 ?_
    refine lv_iload_n hE hB dX1_end_12 rfl (lv_at hl 1 rfl) ?_
    refine ml1 hE hB hK hI (i := c) (by omega) dX1_end_13 ?_
    refine n_if_ne (tgt := 19) hE hB (by omega) dX1_end_14 (by decide) (fun h_14 => ?_) (fun h_14 => ?_)
    · refine lv_iconst (v := nI 4) hE hB dX1_end_19 (by decide) ?_
      refine lv_iload_n hE hB dX1_end_20 rfl (lv_at hl 1 rfl) ?_
      refine n_mul hE hB dX1_end_21 ?_
      refine lv_aload_n hE hB dX1_end_22 rfl (lv_at hl 0 rfl) ?_
      refine mg1 hE hB hts hown hK hI dX1_end_23 ?_
      refine lv_iload_n hE hB dX1_end_26 rfl (lv_at hl 1 rfl) ?_
      refine ml1 hE hB hK hI (i := c) (by omega) dX1_end_27 ?_
      refine n_add hE hB dX1_end_28 ?_
      refine lv_istore_n (lv' := [(2, .int (nI ((4 * c) + (mL M c)))), (0, .ref o), (1, .int (nI c))]) hE hB dX1_end_29 rfl hl (by decide) rfl (fun ls hl => ?_)
      refine lv_aload_n hE hB dX1_end_30 rfl (lv_at hl 1 rfl) ?_
      refine mg1 hE hB hts hown hK hI dX1_end_31 ?_
      refine lv_iload_n hE hB dX1_end_34 rfl (lv_at hl 2 rfl) ?_
      refine lv_dup2_11 hE hB dX1_end_35 rfl rfl ?_
      refine ml1 hE hB hK hI (i := c) (by omega) dX1_end_36 ?_
      refine lv_iconst (v := nI 1) hE hB dX1_end_37 (by decide) ?_
      refine n_sub hE hB (by omega) dX1_end_38 ?_
      refine ms1 hE hB hK hI (i := c) (v := ((mL M c) - 1)) (by omega) dX1_end_39 (fun H locs hI => ?_)
      have hI : GI D A s.heap (wM o a d (menD M c)) H locs := hI
      refine lv_iconst (v := nI 0) hE hB dX1_end_40 (by decide) ?_
      refine lv_istore_n (lv' := [(3, .int (nI 0)), (2, .int (nI ((4 * c) + (mL M c)))), (0, .ref o), (1, .int (nI c))]) hE hB dX1_end_41 rfl hl (by decide) rfl (fun ls hl => ?_)
      exact lpM_end K hr hlk hc (by omega) (by omega) 16 0 (menD M c) _ _ ls rfl (WM_enD hM c hc) rfl rfl hI (lv_sub hl [2, 3, 1, 0] rfl)
    · exact absurd h_14 h0
set_option maxHeartbeats 4000000 in
set_option maxRecDepth 100000 in
theorem met_X1_giveUp_z {l : Launch} {D : va_G} {o : Nat} {a : Nat → Nat} {d : Nat → ClassId} {M : MS} {c : Nat} (hc : c < 4) (h0 : mL M c = 0) : GMi l yX1_giveUp (ws_ yX1_giveUp cX1_giveUp 2 (some .int)) (rmD 1) D (tysM d) (wM o a d M) [.ref o, .int (nI c)] (wM o a d M) (-1) := by
  refine GMi.of (by decide) (Nat.le_of_ble_eq_true rfl) ?_
  intro p e s m args below meth cd A ls K hr hlk hI hl
  have K : GC RX1 (tysM d) D A p s m args cd cX1_giveUp 2 := K
  have hl : lv_has ls 2 [(0, .ref o), (1, .int (nI c))] := hl
  obtain ⟨hE, hB, hml, hown, hts, hK, hA⟩ := id K
  refine lv_aload_n hE hB dX1_giveUp_0 rfl (lv_at hl 0 rfl) ?_
  refine lv_iload_n hE hB dX1_giveUp_1 rfl (lv_at hl 1 rfl) ?_
  refine kX1_core K hI  (v := (nI 1)) (congrArg nI (isI_ok (by omega) (by decide))) hl.1 ⟨Nat.le_of_ble_eq_true rfl, Nat.le_of_ble_eq_true rfl⟩ (Nat.le_of_ble_eq_true rfl) ⟨Nat.zero_le _, Nat.zero_le _⟩ dX1_giveUp_2 (fun H locs hI => ?_)
  refine n_if_eq (tgt := 17) hE hB (by omega) dX1_giveUp_5 (by decide) (fun h_5 => ?_) (fun h_5 => ?_)
  · exact absurd h_5 (by decide)
  · refine lv_aload_n hE hB dX1_giveUp_8 rfl (lv_at hl 0 rfl) ?_
    refine mg1 hE hB hts hown hK hI dX1_giveUp_9 ?_
    refine lv_iload_n hE hB dX1_giveUp_12 rfl (lv_at hl 1 rfl) ?_
    refine ml1 hE hB hK hI (i := c) (by omega) dX1_giveUp_13 ?_
    refine n_if_ne (tgt := 19) hE hB (by omega) dX1_giveUp_14 (by decide) (fun h_14 => ?_) (fun h_14 => ?_)
    · exact absurd h0 h_14
    · refine lv_iconst (v := -1) hE hB dX1_giveUp_17 (by decide) ?_
      exact g_iret K hr hlk hI rfl rfl dX1_giveUp_18
set_option maxHeartbeats 4000000 in
set_option maxRecDepth 100000 in
theorem met_X1_giveUp {l : Launch} {D : va_G} {o : Nat} {a : Nat → Nat} {d : Nat → ClassId} {M : MS} {c : Nat} (hc : c < 4) (hM : WM M) (h0 : mL M c ≠ 0) : GMi l yX1_giveUp (ws_ yX1_giveUp cX1_giveUp 2 (some .int)) (rmD 1) D (tysM d) (wM o a d M) [.ref o, .int (nI c)] (wM o a d (menD M c)) (nI (mL M c - 1)) := by
  refine GMi.of (by decide) (Nat.le_of_ble_eq_true rfl) ?_
  intro p e s m args below meth cd A ls K hr hlk hI hl
  have K : GC RX1 (tysM d) D A p s m args cd cX1_giveUp 2 := K
  have hl : lv_has ls 2 [(0, .ref o), (1, .int (nI c))] := hl
  obtain ⟨hE, hB, hml, hown, hts, hK, hA⟩ := id K
  have hlv := hM c hc
  refine lv_aload_n hE hB dX1_giveUp_0 rfl (lv_at hl 0 rfl) ?_
  refine lv_iload_n hE hB dX1_giveUp_1 rfl (lv_at hl 1 rfl) ?_
  refine kX1_core K hI  (v := (nI 1)) (congrArg nI (isI_ok (by omega) (by decide))) hl.1 ⟨Nat.le_of_ble_eq_true rfl, Nat.le_of_ble_eq_true rfl⟩ (Nat.le_of_ble_eq_true rfl) ⟨Nat.zero_le _, Nat.zero_le _⟩ dX1_giveUp_2 (fun H locs hI => ?_)
  refine n_if_eq (tgt := 17) hE hB (by omega) dX1_giveUp_5 (by decide) (fun h_5 => ?_) (fun h_5 => ?_)
  · exact absurd h_5 (by decide)
  · refine lv_aload_n hE hB dX1_giveUp_8 rfl (lv_at hl 0 rfl) ?_
    refine mg1 hE hB hts hown hK hI dX1_giveUp_9 ?_
    refine lv_iload_n hE hB dX1_giveUp_12 rfl (lv_at hl 1 rfl) ?_
    refine ml1 hE hB hK hI (i := c) (by omega) dX1_giveUp_13 ?_
    refine n_if_ne (tgt := 19) hE hB (by omega) dX1_giveUp_14 (by decide) (fun h_14 => ?_) (fun h_14 => ?_)
    · refine lv_aload_n hE hB dX1_giveUp_19 rfl (lv_at hl 0 rfl) ?_
      refine mg1 hE hB hts hown hK hI dX1_giveUp_20 ?_
      refine lv_iload_n hE hB dX1_giveUp_23 rfl (lv_at hl 1 rfl) ?_
      refine lv_dup2_11 hE hB dX1_giveUp_24 rfl rfl ?_
      refine ml1 hE hB hK hI (i := c) (by omega) dX1_giveUp_25 ?_
      refine lv_iconst (v := nI 1) hE hB dX1_giveUp_26 (by decide) ?_
      refine n_sub hE hB (by omega) dX1_giveUp_27 ?_
      refine ms1 hE hB hK hI (i := c) (v := ((mL M c) - 1)) (by omega) dX1_giveUp_28 (fun H locs hI => ?_)
      have hI : GI D A s.heap (wM o a d (mM M, upN (mL M) c ((mL M c) - 1), mR M, mW M, mV M)) H locs := hI
      refine lv_aload_n hE hB dX1_giveUp_29 rfl (lv_at hl 0 rfl) ?_
      refine mg1 hE hB hts hown hK hI dX1_giveUp_30 ?_
      refine lv_iload_n hE hB dX1_giveUp_33 rfl (lv_at hl 1 rfl) ?_
      refine ml1 hE hB hK hI (i := c) (by omega) dX1_giveUp_34 ?_
      refine n_top (y := (nI ((upN (mL M) c ((mL M c) - 1)) c))) rfl ?_
      exact g_iret K hr hlk hI rfl (congrArg nI upN_s) dX1_giveUp_35
    · exact absurd h_14 h0
set_option maxHeartbeats 4000000 in
set_option maxRecDepth 100000 in
theorem met_X1_giveAllUp {l : Launch} {D : va_G} {o : Nat} {a : Nat → Nat} {d : Nat → ClassId} {M : MS} {c : Nat} (hc : c < 4) : GMi l yX1_giveAllUp (ws_ yX1_giveAllUp cX1_giveAllUp 3 (some .int)) (rmD 1) D (tysM d) (wM o a d M) [.ref o, .int (nI c)] (wM o a d (M.1, upN (mL M) c 0, M.2.2)) (nI (mL M c)) := by
  refine GMi.of (by decide) (Nat.le_of_ble_eq_true rfl) ?_
  intro p e s m args below meth cd A ls K hr hlk hI hl
  have K : GC RX1 (tysM d) D A p s m args cd cX1_giveAllUp 3 := K
  have hl : lv_has ls 3 [(0, .ref o), (1, .int (nI c))] := hl
  obtain ⟨hE, hB, hml, hown, hts, hK, hA⟩ := id K
  refine lv_aload_n hE hB dX1_giveAllUp_0 rfl (lv_at hl 0 rfl) ?_
  refine lv_iload_n hE hB dX1_giveAllUp_1 rfl (lv_at hl 1 rfl) ?_
  refine kX1_core K hI  (v := (nI 1)) (congrArg nI (isI_ok (by omega) (by decide))) hl.1 ⟨Nat.le_of_ble_eq_true rfl, Nat.le_of_ble_eq_true rfl⟩ (Nat.le_of_ble_eq_true rfl) ⟨Nat.zero_le _, Nat.zero_le _⟩ dX1_giveAllUp_2 (fun H locs hI => ?_)
  refine n_if_ne (tgt := 10) hE hB (by omega) dX1_giveAllUp_5 (by decide) (fun h_5 => ?_) (fun h_5 => ?_)
  · refine lv_aload_n hE hB dX1_giveAllUp_10 rfl (lv_at hl 0 rfl) ?_
    refine mg1 hE hB hts hown hK hI dX1_giveAllUp_11 ?_
    refine lv_iload_n hE hB dX1_giveAllUp_14 rfl (lv_at hl 1 rfl) ?_
    refine ml1 hE hB hK hI (i := c) (by omega) dX1_giveAllUp_15 ?_
    refine lv_istore_n (lv' := [(2, .int (nI (mL M c))), (0, .ref o), (1, .int (nI c))]) hE hB dX1_giveAllUp_16 rfl hl (by decide) rfl (fun ls hl => ?_)
    refine lv_aload_n hE hB dX1_giveAllUp_17 rfl (lv_at hl 1 rfl) ?_
    refine mg1 hE hB hts hown hK hI dX1_giveAllUp_18 ?_
    refine lv_iload_n hE hB dX1_giveAllUp_21 rfl (lv_at hl 2 rfl) ?_
    refine lv_iconst (v := nI 0) hE hB dX1_giveAllUp_22 (by decide) ?_
    refine ms1 hE hB hK hI (i := c) (v := 0) (by omega) dX1_giveAllUp_23 (fun H locs hI => ?_)
    have hI : GI D A s.heap (wM o a d (mM M, upN (mL M) c 0, mR M, mW M, mV M)) H locs := hI
    refine lv_iload_n hE hB dX1_giveAllUp_24 rfl (lv_at hl 0 rfl) ?_
    exact g_iret K hr hlk hI rfl rfl dX1_giveAllUp_25
  · exact absurd h_5 (by decide)
set_option maxHeartbeats 4000000 in
set_option maxRecDepth 100000 in
theorem met_X1_level {l : Launch} {D : va_G} {o : Nat} {a : Nat → Nat} {d : Nat → ClassId} {M : MS} {c : Nat} (hc : c < 4) : GMi l yX1_level (ws_ yX1_level cX1_level 2 (some .int)) (rmD 1) D (tysM d) (wM o a d M) [.ref o, .int (nI c)] (wM o a d M) (nI (mL M c)) := by
  refine GMi.of (by decide) (Nat.le_of_ble_eq_true rfl) ?_
  intro p e s m args below meth cd A ls K hr hlk hI hl
  have K : GC RX1 (tysM d) D A p s m args cd cX1_level 2 := K
  have hl : lv_has ls 2 [(0, .ref o), (1, .int (nI c))] := hl
  obtain ⟨hE, hB, hml, hown, hts, hK, hA⟩ := id K
  refine lv_aload_n hE hB dX1_level_0 rfl (lv_at hl 0 rfl) ?_
  refine lv_iload_n hE hB dX1_level_1 rfl (lv_at hl 1 rfl) ?_
  refine kX1_core K hI  (v := (nI 1)) (congrArg nI (isI_ok (by omega) (by decide))) hl.1 ⟨Nat.le_of_ble_eq_true rfl, Nat.le_of_ble_eq_true rfl⟩ (Nat.le_of_ble_eq_true rfl) ⟨Nat.zero_le _, Nat.zero_le _⟩ dX1_level_2 (fun H locs hI => ?_)
  refine n_if_eq (tgt := 17) hE hB (by omega) dX1_level_5 (by decide) (fun h_5 => ?_) (fun h_5 => ?_)
  · exact absurd h_5 (by decide)
  · refine lv_aload_n hE hB dX1_level_8 rfl (lv_at hl 0 rfl) ?_
    refine mg1 hE hB hts hown hK hI dX1_level_9 ?_
    refine lv_iload_n hE hB dX1_level_12 rfl (lv_at hl 1 rfl) ?_
    refine ml1 hE hB hK hI (i := c) (by omega) dX1_level_13 ?_
    refine lv_goto (tgt := 18) hE hB dX1_level_14 (by decide) ?_
    exact g_iret K hr hlk hI rfl rfl dX1_level_18
set_option maxHeartbeats 4000000 in
set_option maxRecDepth 100000 in
theorem met_X1_committed {l : Launch} {D : va_G} {o : Nat} {a : Nat → Nat} {d : Nat → ClassId} {M : MS} {x : Nat} (hx : x < 16) : GMi l yX1_committed (ws_ yX1_committed cX1_committed 2 (some .int)) (rmD 1) D (tysM d) (wM o a d M) [.ref o, .int (nI x)] (wM o a d M) (mM M x) := by
  refine GMi.of (by decide) (Nat.le_of_ble_eq_true rfl) ?_
  intro p e s m args below meth cd A ls K hr hlk hI hl
  have K : GC RX1 (tysM d) D A p s m args cd cX1_committed 2 := K
  have hl : lv_has ls 2 [(0, .ref o), (1, .int (nI x))] := hl
  obtain ⟨hE, hB, hml, hown, hts, hK, hA⟩ := id K
  refine lv_aload_n hE hB dX1_committed_0 rfl (lv_at hl 0 rfl) ?_
  refine lv_iload_n hE hB dX1_committed_1 rfl (lv_at hl 1 rfl) ?_
  refine kX1_cell K hI  (v := (nI 1)) (congrArg nI (isI_ok (by omega) (by decide))) hl.1 ⟨Nat.le_of_ble_eq_true rfl, Nat.le_of_ble_eq_true rfl⟩ (Nat.le_of_ble_eq_true rfl) ⟨Nat.zero_le _, Nat.zero_le _⟩ dX1_committed_2 (fun H locs hI => ?_)
  refine n_if_eq (tgt := 17) hE hB (by omega) dX1_committed_5 (by decide) (fun h_5 => ?_) (fun h_5 => ?_)
  · exact absurd h_5 (by decide)
  · refine lv_aload_n hE hB dX1_committed_8 rfl (lv_at hl 0 rfl) ?_
    refine mg0 hE hB hts hown hK hI dX1_committed_9 ?_
    refine lv_iload_n hE hB dX1_committed_12 rfl (lv_at hl 1 rfl) ?_
    refine ml0 hE hB hK hI (i := x) (by omega) dX1_committed_13 ?_
    refine lv_goto (tgt := 18) hE hB dX1_committed_14 (by decide) ?_
    exact g_iret K hr hlk hI rfl rfl dX1_committed_18
set_option maxHeartbeats 4000000 in
set_option maxRecDepth 100000 in
theorem met_X1_readBy {l : Launch} {D : va_G} {o : Nat} {a : Nat → Nat} {d : Nat → ClassId} {M : MS} {c : Nat} (hc : c < 4) (hM : WM M) : GMi l yX1_readBy (ws_ yX1_readBy cX1_readBy 2 (some .int)) (rmD 1) D (tysM d) (wM o a d M) [.ref o, .int (nI c)] (wM o a d M) (mrs M c) := by
  refine GMi.of (by decide) (Nat.le_of_ble_eq_true rfl) ?_
  intro p e s m args below meth cd A ls K hr hlk hI hl
  have K : GC RX1 (tysM d) D A p s m args cd cX1_readBy 2 := K
  have hl : lv_has ls 2 [(0, .ref o), (1, .int (nI c))] := hl
  obtain ⟨hE, hB, hml, hown, hts, hK, hA⟩ := id K
  refine lv_aload_n hE hB dX1_readBy_0 rfl (lv_at hl 0 rfl) ?_
  refine lv_iload_n hE hB dX1_readBy_1 rfl (lv_at hl 1 rfl) ?_
  refine kX1_core K hI  (v := (nI 1)) (congrArg nI (isI_ok (by omega) (by decide))) hl.1 ⟨Nat.le_of_ble_eq_true rfl, Nat.le_of_ble_eq_true rfl⟩ (Nat.le_of_ble_eq_true rfl) ⟨Nat.zero_le _, Nat.zero_le _⟩ dX1_readBy_2 (fun H locs hI => ?_)
  refine n_if_eq (tgt := 16) hE hB (by omega) dX1_readBy_5 (by decide) (fun h_5 => ?_) (fun h_5 => ?_)
  · exact absurd h_5 (by decide)
  · refine lv_aload_n hE hB dX1_readBy_8 rfl (lv_at hl 0 rfl) ?_
    refine lv_iload_n hE hB dX1_readBy_9 rfl (lv_at hl 1 rfl) ?_
    refine kX1_readSet K hI (by omega) hM rfl hl.1 ⟨Nat.le_of_ble_eq_true rfl, Nat.le_of_ble_eq_true rfl⟩ (Nat.le_of_ble_eq_true rfl) ⟨Nat.zero_le _, Nat.zero_le _⟩ dX1_readBy_10 (fun H locs hI => ?_)
    refine lv_goto (tgt := 17) hE hB dX1_readBy_13 (by decide) ?_
    exact g_iret K hr hlk hI rfl rfl dX1_readBy_17
set_option maxHeartbeats 4000000 in
set_option maxRecDepth 100000 in
theorem met_X1_writtenBy {l : Launch} {D : va_G} {o : Nat} {a : Nat → Nat} {d : Nat → ClassId} {M : MS} {c : Nat} (hc : c < 4) (hM : WM M) : GMi l yX1_writtenBy (ws_ yX1_writtenBy cX1_writtenBy 2 (some .int)) (rmD 1) D (tysM d) (wM o a d M) [.ref o, .int (nI c)] (wM o a d M) (mws M c) := by
  refine GMi.of (by decide) (Nat.le_of_ble_eq_true rfl) ?_
  intro p e s m args below meth cd A ls K hr hlk hI hl
  have K : GC RX1 (tysM d) D A p s m args cd cX1_writtenBy 2 := K
  have hl : lv_has ls 2 [(0, .ref o), (1, .int (nI c))] := hl
  obtain ⟨hE, hB, hml, hown, hts, hK, hA⟩ := id K
  refine lv_aload_n hE hB dX1_writtenBy_0 rfl (lv_at hl 0 rfl) ?_
  refine lv_iload_n hE hB dX1_writtenBy_1 rfl (lv_at hl 1 rfl) ?_
  refine kX1_core K hI  (v := (nI 1)) (congrArg nI (isI_ok (by omega) (by decide))) hl.1 ⟨Nat.le_of_ble_eq_true rfl, Nat.le_of_ble_eq_true rfl⟩ (Nat.le_of_ble_eq_true rfl) ⟨Nat.zero_le _, Nat.zero_le _⟩ dX1_writtenBy_2 (fun H locs hI => ?_)
  refine n_if_eq (tgt := 16) hE hB (by omega) dX1_writtenBy_5 (by decide) (fun h_5 => ?_) (fun h_5 => ?_)
  · exact absurd h_5 (by decide)
  · refine lv_aload_n hE hB dX1_writtenBy_8 rfl (lv_at hl 0 rfl) ?_
    refine lv_iload_n hE hB dX1_writtenBy_9 rfl (lv_at hl 1 rfl) ?_
    refine kX1_writeSet K hI (by omega) hM rfl hl.1 ⟨Nat.le_of_ble_eq_true rfl, Nat.le_of_ble_eq_true rfl⟩ (Nat.le_of_ble_eq_true rfl) ⟨Nat.zero_le _, Nat.zero_le _⟩ dX1_writtenBy_10 (fun H locs hI => ?_)
    refine lv_goto (tgt := 17) hE hB dX1_writtenBy_13 (by decide) ?_
    exact g_iret K hr hlk hI rfl rfl dX1_writtenBy_17
set_option maxHeartbeats 4000000 in
set_option maxRecDepth 100000 in
theorem met_X1_rivals0 {l : Launch} {D : va_G} {o : Nat} {a : Nat → Nat} {d : Nat → ClassId} {M : MS} {c x : Nat} (hc : c < 4) (hx : x < 16) (hM : WM M) : GMi l yX1_rivals (ws_ yX1_rivals cX1_rivals 4 (some .int)) (rmD 2) D (tysM d) (wM o a d M) [.ref o, .int (nI c), .int (nI x), .int (nI 0)] (wM o a d M) (moth M c x 1) := by
  refine GMi.of (by decide) (Nat.le_of_ble_eq_true rfl) ?_
  intro p e s m args below meth cd A ls K hr hlk hI hl
  have K : GC RX1 (tysM d) D A p s m args cd cX1_rivals 4 := K
  have hl : lv_has ls 4 [(0, .ref o), (1, .int (nI c)), (2, .int (nI x)), (3, .int (nI 0))] := hl
  obtain ⟨hE, hB, hml, hown, hts, hK, hA⟩ := id K
  refine lv_aload_n hE hB dX1_rivals_0 rfl (lv_at hl 0 rfl) ?_
  refine lv_iload_n hE hB dX1_rivals_1 rfl (lv_at hl 1 rfl) ?_
  refine kX1_core K hI  (v := (nI 1)) (congrArg nI (isI_ok (by omega) (by decide))) hl.1 ⟨Nat.le_of_ble_eq_true rfl, Nat.le_of_ble_eq_true rfl⟩ (Nat.le_of_ble_eq_true rfl) ⟨Nat.zero_le _, Nat.zero_le _⟩ dX1_rivals_2 (fun H locs hI => ?_)
  refine n_if_eq (tgt := 43) hE hB (by omega) dX1_rivals_5 (by decide) (fun h_5 => ?_) (fun h_5 => ?_)
  · exact absurd h_5 (by decide)
  · refine lv_aload_n hE hB dX1_rivals_8 rfl (lv_at hl 0 rfl) ?_
    refine lv_iload_n hE hB dX1_rivals_9 rfl (lv_at hl 2 rfl) ?_
    refine kX1_cell K hI  (v := (nI 1)) (congrArg nI (isI_ok (by omega) (by decide))) hl.1 ⟨Nat.le_of_ble_eq_true rfl, Nat.le_of_ble_eq_true rfl⟩ (Nat.le_of_ble_eq_true rfl) ⟨Nat.zero_le _, Nat.zero_le _⟩ dX1_rivals_10 (fun H locs hI => ?_)
    refine n_if_eq (tgt := 43) hE hB (by omega) dX1_rivals_13 (by decide) (fun h_13 => ?_) (fun h_13 => ?_)
    · exact absurd h_13 (by decide)
    · refine lv_iload_n hE hB dX1_rivals_16 rfl (lv_at hl 3 rfl) ?_
      refine n_if_eq (tgt := 25) hE hB (by omega) dX1_rivals_17 (by decide) (fun h_17 => ?_) (fun h_17 => ?_)
      · refine lv_aload_n hE hB dX1_rivals_25 rfl (lv_at hl 0 rfl) ?_
        refine lv_iload_n hE hB dX1_rivals_26 rfl (lv_at hl 1 rfl) ?_
        refine lv_iload_n hE hB dX1_rivals_27 rfl (lv_at hl 2 rfl) ?_
        refine lv_iload_n hE hB dX1_rivals_28 rfl (lv_at hl 3 rfl) ?_
        refine n_if_ne (tgt := 36) hE hB (by omega) dX1_rivals_29 (by decide) (fun h_29 => ?_) (fun h_29 => ?_)
        · exact absurd h_29 (by decide)
        · refine lv_iconst (v := nI 1) hE hB dX1_rivals_32 (by decide) ?_
          refine lv_goto (tgt := 37) hE hB dX1_rivals_33 (by decide) ?_
          refine kX1_others K hI (by omega) (by omega) (by omega) hM rfl hl.1 ⟨Nat.le_of_ble_eq_true rfl, Nat.le_of_ble_eq_true rfl⟩ (Nat.le_of_ble_eq_true rfl) ⟨Nat.zero_le _, Nat.zero_le _⟩ dX1_rivals_37 (fun H locs hI => ?_)
          refine lv_goto (tgt := 44) hE hB dX1_rivals_40 (by decide) ?_
          exact g_iret K hr hlk hI rfl rfl dX1_rivals_44
      · exact absurd h_17 (by decide)
set_option maxHeartbeats 4000000 in
set_option maxRecDepth 100000 in
theorem met_X1_rivals1 {l : Launch} {D : va_G} {o : Nat} {a : Nat → Nat} {d : Nat → ClassId} {M : MS} {c x : Nat} (hc : c < 4) (hx : x < 16) (hM : WM M) : GMi l yX1_rivals (ws_ yX1_rivals cX1_rivals 4 (some .int)) (rmD 2) D (tysM d) (wM o a d M) [.ref o, .int (nI c), .int (nI x), .int (nI 1)] (wM o a d M) (moth M c x 0) := by
  refine GMi.of (by decide) (Nat.le_of_ble_eq_true rfl) ?_
  intro p e s m args below meth cd A ls K hr hlk hI hl
  have K : GC RX1 (tysM d) D A p s m args cd cX1_rivals 4 := K
  have hl : lv_has ls 4 [(0, .ref o), (1, .int (nI c)), (2, .int (nI x)), (3, .int (nI 1))] := hl
  obtain ⟨hE, hB, hml, hown, hts, hK, hA⟩ := id K
  refine lv_aload_n hE hB dX1_rivals_0 rfl (lv_at hl 0 rfl) ?_
  refine lv_iload_n hE hB dX1_rivals_1 rfl (lv_at hl 1 rfl) ?_
  refine kX1_core K hI  (v := (nI 1)) (congrArg nI (isI_ok (by omega) (by decide))) hl.1 ⟨Nat.le_of_ble_eq_true rfl, Nat.le_of_ble_eq_true rfl⟩ (Nat.le_of_ble_eq_true rfl) ⟨Nat.zero_le _, Nat.zero_le _⟩ dX1_rivals_2 (fun H locs hI => ?_)
  refine n_if_eq (tgt := 43) hE hB (by omega) dX1_rivals_5 (by decide) (fun h_5 => ?_) (fun h_5 => ?_)
  · exact absurd h_5 (by decide)
  · refine lv_aload_n hE hB dX1_rivals_8 rfl (lv_at hl 0 rfl) ?_
    refine lv_iload_n hE hB dX1_rivals_9 rfl (lv_at hl 2 rfl) ?_
    refine kX1_cell K hI  (v := (nI 1)) (congrArg nI (isI_ok (by omega) (by decide))) hl.1 ⟨Nat.le_of_ble_eq_true rfl, Nat.le_of_ble_eq_true rfl⟩ (Nat.le_of_ble_eq_true rfl) ⟨Nat.zero_le _, Nat.zero_le _⟩ dX1_rivals_10 (fun H locs hI => ?_)
    refine n_if_eq (tgt := 43) hE hB (by omega) dX1_rivals_13 (by decide) (fun h_13 => ?_) (fun h_13 => ?_)
    · exact absurd h_13 (by decide)
    · refine lv_iload_n hE hB dX1_rivals_16 rfl (lv_at hl 3 rfl) ?_
      refine n_if_eq (tgt := 25) hE hB (by omega) dX1_rivals_17 (by decide) (fun h_17 => ?_) (fun h_17 => ?_)
      · exact absurd h_17 (by decide)
      · refine lv_iload_n hE hB dX1_rivals_20 rfl (lv_at hl 3 rfl) ?_
        refine lv_iconst (v := nI 1) hE hB dX1_rivals_21 (by decide) ?_
        refine n_ic_ne (tgt := 43) hE hB (by omega) (by omega) dX1_rivals_22 (by decide) (fun h_22 => ?_) (fun h_22 => ?_)
        · exact absurd h_22 (by decide)
        · refine lv_aload_n hE hB dX1_rivals_25 rfl (lv_at hl 0 rfl) ?_
          refine lv_iload_n hE hB dX1_rivals_26 rfl (lv_at hl 1 rfl) ?_
          refine lv_iload_n hE hB dX1_rivals_27 rfl (lv_at hl 2 rfl) ?_
          refine lv_iload_n hE hB dX1_rivals_28 rfl (lv_at hl 3 rfl) ?_
          refine n_if_ne (tgt := 36) hE hB (by omega) dX1_rivals_29 (by decide) (fun h_29 => ?_) (fun h_29 => ?_)
          · refine lv_iconst (v := nI 0) hE hB dX1_rivals_36 (by decide) ?_
            refine kX1_others K hI (by omega) (by omega) (by omega) hM rfl hl.1 ⟨Nat.le_of_ble_eq_true rfl, Nat.le_of_ble_eq_true rfl⟩ (Nat.le_of_ble_eq_true rfl) ⟨Nat.zero_le _, Nat.zero_le _⟩ dX1_rivals_37 (fun H locs hI => ?_)
            refine lv_goto (tgt := 44) hE hB dX1_rivals_40 (by decide) ?_
            exact g_iret K hr hlk hI rfl rfl dX1_rivals_44
          · exact absurd h_29 (by decide)
set_option maxHeartbeats 4000000 in
set_option maxRecDepth 100000 in
theorem lpM_digest {p : Program} {l : Launch} {e : Env} {s : State} {m : MethodId} {args : Array Value} {below : List Frame} {meth : Method} {cd : Code} {D : va_G} {A : Nat → Prop} {o : Nat} {a : Nat → Nat} {d : Nat → ClassId} (K : GC RX1 (tysM d) D A p s m args cd cX1_digest 3) (hr : meth.sig.returnType = some .int) (hlk : meth.locks = false) {wz : va_W} {r : Int32} {M : MS} : ∀ (n k : Nat) (acc : Int32) (H : Heap) (locs : List Loc) (ls : Array Slot), k + n = 16 → wM o a d M = wz → dgL (mM M) n k acc = r → GI D A s.heap (wM o a d M) H locs → lv_has ls 3 [(0, .ref o), (1, .int acc), (2, .int (nI k))] → W p l e (rmD 0) s m args below meth cd H locs 0 0 (MQ below (gQi D (tysM d) A wz r) args s 0 0 A) (F0 m 4 ls []) := by
  obtain ⟨hE, hB, hml, hown, hts, hK, hA⟩ := id K
  intro n
  induction n with
  | zero =>
    intro k acc H locs ls hkn hz hres hI hl
    obtain rfl : k = 16 := by omega
    refine lv_iload_n hE hB dX1_digest_4 rfl (lv_at hl 2 rfl) ?_
    refine lv_bipush (v := nI 16) hE hB dX1_digest_5 (by decide) ?_
    refine n_ic_ge (tgt := 29) hE hB (by omega) (by omega) dX1_digest_7 (by decide) (fun h_7 => ?_) (fun h_7 => ?_)
    · refine lv_iload_n hE hB dX1_digest_29 rfl (lv_at hl 1 rfl) ?_
      exact g_iret K hr hlk hI hz (by rw [← hres]; rfl) dX1_digest_30
    · exact absurd h_7 (by decide)
  | succ n ih =>
    intro k acc H locs ls hkn hz hres hI hl
    refine lv_iload_n hE hB dX1_digest_4 rfl (lv_at hl 2 rfl) ?_
    refine lv_bipush (v := nI 16) hE hB dX1_digest_5 (by decide) ?_
    refine n_ic_ge (tgt := 29) hE hB (by omega) (by omega) dX1_digest_7 (by decide) (fun h_7 => ?_) (fun h_7 => ?_)
    · omega
    · refine lv_iload_n hE hB dX1_digest_10 rfl (lv_at hl 1 rfl) ?_
      refine lv_iload_n hE hB dX1_digest_11 rfl (lv_at hl 2 rfl) ?_
      refine lv_iconst (v := nI 1) hE hB dX1_digest_12 (by decide) ?_
      refine n_add hE hB dX1_digest_13 ?_
      refine lv_aload_n hE hB dX1_digest_14 rfl (lv_at hl 0 rfl) ?_
      refine mg0 hE hB hts hown hK hI dX1_digest_15 ?_
      refine lv_iload_n hE hB dX1_digest_18 rfl (lv_at hl 2 rfl) ?_
      refine ml0 hE hB hK hI (i := k) (by omega) dX1_digest_19 ?_
      refine lv_imul hE hB dX1_digest_20 ?_
      refine lv_iadd hE hB dX1_digest_21 ?_
      refine lv_istore_n (lv' := [(1, .int (acc + ((nI (k + 1)) * (mM M k)))), (0, .ref o), (2, .int (nI k))]) hE hB dX1_digest_22 rfl hl (by decide) rfl (fun ls hl => ?_)
      refine lv_iinc (v := (nI (k + 1))) (lv' := [(2, .int (nI (k + 1))), (1, .int (acc + ((nI (k + 1)) * (mM M k)))), (0, .ref o)]) hE hB dX1_digest_23 hl (k := 2) rfl (nI_1 _) (by decide) rfl (fun ls hl => ?_)
      refine lv_goto (tgt := 4) hE hB dX1_digest_26 (by decide) ?_
      exact ih (k + 1) (acc + nI (k + 1) * mM M k) H locs ls (by omega) hz (by rw [← hres]; rfl) hI (lv_sub hl [2, 1, 0] rfl)
set_option maxHeartbeats 4000000 in
set_option maxRecDepth 100000 in
theorem met_X1_digest {l : Launch} {D : va_G} {o : Nat} {a : Nat → Nat} {d : Nat → ClassId} {M : MS}  : GMi l yX1_digest (ws_ yX1_digest cX1_digest 3 (some .int)) (rmD 0) D (tysM d) (wM o a d M) [.ref o] (wM o a d M) (dgL (mM M) 16 0 (nI 0)) := by
  refine GMi.of (by decide) (Nat.le_of_ble_eq_true rfl) ?_
  intro p e s m args below meth cd A ls K hr hlk hI hl
  have K : GC RX1 (tysM d) D A p s m args cd cX1_digest 3 := K
  have hl : lv_has ls 3 [(0, .ref o)] := hl
  obtain ⟨hE, hB, hml, hown, hts, hK, hA⟩ := id K
  refine lv_iconst (v := nI 0) hE hB dX1_digest_0 (by decide) ?_
  refine lv_istore_n (lv' := [(1, .int (nI 0)), (0, .ref o)]) hE hB dX1_digest_1 rfl hl (by decide) rfl (fun ls hl => ?_)
  refine lv_iconst (v := nI 0) hE hB dX1_digest_2 (by decide) ?_
  refine lv_istore_n (lv' := [(2, .int (nI 0)), (1, .int (nI 0)), (0, .ref o)]) hE hB dX1_digest_3 rfl hl (by decide) rfl (fun ls hl => ?_)
  exact lpM_digest K hr hlk 16 0 (nI 0) _ _ ls rfl rfl rfl hI (lv_sub hl [2, 1, 0] rfl)
set_option maxHeartbeats 4000000 in
set_option maxRecDepth 100000 in
theorem met_X1_begin_bad {l : Launch} {D : va_G} {o : Nat} {a : Nat → Nat} {d : Nat → ClassId} {M : MS} {c : Int32} (h : isI c 4 = 0) : GMi l yX1_begin (ws_ yX1_begin cX1_begin 2 (some .int)) (rmD 1) D (tysM d) (wM o a d M) [.ref o, .int c] (wM o a d M) (-1) := by
  refine GMi.of (by decide) (Nat.le_of_ble_eq_true rfl) ?_
  intro p e s m args below meth cd A ls K hr hlk hI hl
  have K : GC RX1 (tysM d) D A p s m args cd cX1_begin 2 := K
  have hl : lv_has ls 2 [(0, .ref o), (1, .int c)] := hl
  obtain ⟨hE, hB, hml, hown, hts, hK, hA⟩ := id K
  have i1 := isI_le c 4
  refine lv_aload_n hE hB dX1_begin_0 rfl (lv_at hl 0 rfl) ?_
  refine lv_iload_n hE hB dX1_begin_1 rfl (lv_at hl 1 rfl) ?_
  refine kX1_core K hI  rfl hl.1 ⟨Nat.le_of_ble_eq_true rfl, Nat.le_of_ble_eq_true rfl⟩ (Nat.le_of_ble_eq_true rfl) ⟨Nat.zero_le _, Nat.zero_le _⟩ dX1_begin_2 (fun H locs hI => ?_)
  refine n_if_eq (tgt := 18) hE hB (by omega) dX1_begin_5 (by decide) (fun h_5 => ?_) (fun h_5 => ?_)
  · refine lv_iconst (v := -1) hE hB dX1_begin_18 (by decide) ?_
    exact g_iret K hr hlk hI rfl rfl dX1_begin_19
  · omega
set_option maxHeartbeats 4000000 in
set_option maxRecDepth 100000 in
theorem met_X1_read_bad {l : Launch} {D : va_G} {o : Nat} {a : Nat → Nat} {d : Nat → ClassId} {M : MS} {c x : Int32} (h : isI c 4 = 0 ∨ isI x 16 = 0) : GMi l yX1_read (ws_ yX1_read cX1_read 4 (some .int)) (rmD 2) D (tysM d) (wM o a d M) [.ref o, .int c, .int x] (wM o a d M) (-1) := by
  refine GMi.of (by decide) (Nat.le_of_ble_eq_true rfl) ?_
  intro p e s m args below meth cd A ls K hr hlk hI hl
  have K : GC RX1 (tysM d) D A p s m args cd cX1_read 4 := K
  have hl : lv_has ls 4 [(0, .ref o), (1, .int c), (2, .int x)] := hl
  obtain ⟨hE, hB, hml, hown, hts, hK, hA⟩ := id K
  have i1 := isI_le c 4
  have i2 := isI_le x 16
  refine lv_aload_n hE hB dX1_read_0 rfl (lv_at hl 0 rfl) ?_
  refine lv_iload_n hE hB dX1_read_1 rfl (lv_at hl 1 rfl) ?_
  refine kX1_core K hI  rfl hl.1 ⟨Nat.le_of_ble_eq_true rfl, Nat.le_of_ble_eq_true rfl⟩ (Nat.le_of_ble_eq_true rfl) ⟨Nat.zero_le _, Nat.zero_le _⟩ dX1_read_2 (fun H locs hI => ?_)
  refine n_if_eq (tgt := 16) hE hB (by omega) dX1_read_5 (by decide) (fun h_5 => ?_) (fun h_5 => ?_)
  · refine lv_iconst (v := -1) hE hB dX1_read_16 (by decide) ?_
    exact g_iret K hr hlk hI rfl rfl dX1_read_17
  · refine lv_aload_n hE hB dX1_read_8 rfl (lv_at hl 0 rfl) ?_
    refine lv_iload_n hE hB dX1_read_9 rfl (lv_at hl 2 rfl) ?_
    refine kX1_cell K hI  rfl hl.1 ⟨Nat.le_of_ble_eq_true rfl, Nat.le_of_ble_eq_true rfl⟩ (Nat.le_of_ble_eq_true rfl) ⟨Nat.zero_le _, Nat.zero_le _⟩ dX1_read_10 (fun H locs hI => ?_)
    refine n_if_ne (tgt := 18) hE hB (by omega) dX1_read_13 (by decide) (fun h_13 => ?_) (fun h_13 => ?_)
    · omega
    · refine lv_iconst (v := -1) hE hB dX1_read_16 (by decide) ?_
      exact g_iret K hr hlk hI rfl rfl dX1_read_17
set_option maxHeartbeats 4000000 in
set_option maxRecDepth 100000 in
theorem met_X1_sees_bad {l : Launch} {D : va_G} {o : Nat} {a : Nat → Nat} {d : Nat → ClassId} {M : MS} {c x : Int32} (h : isI c 4 = 0 ∨ isI x 16 = 0) : GMi l yX1_sees (ws_ yX1_sees cX1_sees 4 (some .int)) (rmD 1) D (tysM d) (wM o a d M) [.ref o, .int c, .int x] (wM o a d M) (nI 0) := by
  refine GMi.of (by decide) (Nat.le_of_ble_eq_true rfl) ?_
  intro p e s m args below meth cd A ls K hr hlk hI hl
  have K : GC RX1 (tysM d) D A p s m args cd cX1_sees 4 := K
  have hl : lv_has ls 4 [(0, .ref o), (1, .int c), (2, .int x)] := hl
  obtain ⟨hE, hB, hml, hown, hts, hK, hA⟩ := id K
  have i1 := isI_le c 4
  have i2 := isI_le x 16
  refine lv_aload_n hE hB dX1_sees_0 rfl (lv_at hl 0 rfl) ?_
  refine lv_iload_n hE hB dX1_sees_1 rfl (lv_at hl 1 rfl) ?_
  refine kX1_core K hI  rfl hl.1 ⟨Nat.le_of_ble_eq_true rfl, Nat.le_of_ble_eq_true rfl⟩ (Nat.le_of_ble_eq_true rfl) ⟨Nat.zero_le _, Nat.zero_le _⟩ dX1_sees_2 (fun H locs hI => ?_)
  refine n_if_eq (tgt := 16) hE hB (by omega) dX1_sees_5 (by decide) (fun h_5 => ?_) (fun h_5 => ?_)
  · refine lv_iconst (v := nI 0) hE hB dX1_sees_16 (by decide) ?_
    exact g_iret K hr hlk hI rfl rfl dX1_sees_17
  · refine lv_aload_n hE hB dX1_sees_8 rfl (lv_at hl 0 rfl) ?_
    refine lv_iload_n hE hB dX1_sees_9 rfl (lv_at hl 2 rfl) ?_
    refine kX1_cell K hI  rfl hl.1 ⟨Nat.le_of_ble_eq_true rfl, Nat.le_of_ble_eq_true rfl⟩ (Nat.le_of_ble_eq_true rfl) ⟨Nat.zero_le _, Nat.zero_le _⟩ dX1_sees_10 (fun H locs hI => ?_)
    refine n_if_ne (tgt := 18) hE hB (by omega) dX1_sees_13 (by decide) (fun h_13 => ?_) (fun h_13 => ?_)
    · omega
    · refine lv_iconst (v := nI 0) hE hB dX1_sees_16 (by decide) ?_
      exact g_iret K hr hlk hI rfl rfl dX1_sees_17
set_option maxHeartbeats 4000000 in
set_option maxRecDepth 100000 in
theorem met_X1_write_bad {l : Launch} {D : va_G} {o : Nat} {a : Nat → Nat} {d : Nat → ClassId} {M : MS} {c x v : Int32} (h : isI c 4 = 0 ∨ isI x 16 = 0) : GMi l yX1_write (ws_ yX1_write cX1_write 4 (some .int)) (rmD 3) D (tysM d) (wM o a d M) [.ref o, .int c, .int x, .int v] (wM o a d M) (-1) := by
  refine GMi.of (by decide) (Nat.le_of_ble_eq_true rfl) ?_
  intro p e s m args below meth cd A ls K hr hlk hI hl
  have K : GC RX1 (tysM d) D A p s m args cd cX1_write 4 := K
  have hl : lv_has ls 4 [(0, .ref o), (1, .int c), (2, .int x), (3, .int v)] := hl
  obtain ⟨hE, hB, hml, hown, hts, hK, hA⟩ := id K
  have i1 := isI_le c 4
  have i2 := isI_le x 16
  refine lv_aload_n hE hB dX1_write_0 rfl (lv_at hl 0 rfl) ?_
  refine lv_iload_n hE hB dX1_write_1 rfl (lv_at hl 1 rfl) ?_
  refine kX1_core K hI  rfl hl.1 ⟨Nat.le_of_ble_eq_true rfl, Nat.le_of_ble_eq_true rfl⟩ (Nat.le_of_ble_eq_true rfl) ⟨Nat.zero_le _, Nat.zero_le _⟩ dX1_write_2 (fun H locs hI => ?_)
  refine n_if_eq (tgt := 16) hE hB (by omega) dX1_write_5 (by decide) (fun h_5 => ?_) (fun h_5 => ?_)
  · refine lv_iconst (v := -1) hE hB dX1_write_16 (by decide) ?_
    exact g_iret K hr hlk hI rfl rfl dX1_write_17
  · refine lv_aload_n hE hB dX1_write_8 rfl (lv_at hl 0 rfl) ?_
    refine lv_iload_n hE hB dX1_write_9 rfl (lv_at hl 2 rfl) ?_
    refine kX1_cell K hI  rfl hl.1 ⟨Nat.le_of_ble_eq_true rfl, Nat.le_of_ble_eq_true rfl⟩ (Nat.le_of_ble_eq_true rfl) ⟨Nat.zero_le _, Nat.zero_le _⟩ dX1_write_10 (fun H locs hI => ?_)
    refine n_if_ne (tgt := 18) hE hB (by omega) dX1_write_13 (by decide) (fun h_13 => ?_) (fun h_13 => ?_)
    · omega
    · refine lv_iconst (v := -1) hE hB dX1_write_16 (by decide) ?_
      exact g_iret K hr hlk hI rfl rfl dX1_write_17
set_option maxHeartbeats 4000000 in
set_option maxRecDepth 100000 in
theorem met_X1_add_bad {l : Launch} {D : va_G} {o : Nat} {a : Nat → Nat} {d : Nat → ClassId} {M : MS} {c x v : Int32} (h : isI c 4 = 0 ∨ isI x 16 = 0) : GMi l yX1_add (ws_ yX1_add cX1_add 5 (some .int)) (rmD 3) D (tysM d) (wM o a d M) [.ref o, .int c, .int x, .int v] (wM o a d M) (-1) := by
  refine GMi.of (by decide) (Nat.le_of_ble_eq_true rfl) ?_
  intro p e s m args below meth cd A ls K hr hlk hI hl
  have K : GC RX1 (tysM d) D A p s m args cd cX1_add 5 := K
  have hl : lv_has ls 5 [(0, .ref o), (1, .int c), (2, .int x), (3, .int v)] := hl
  obtain ⟨hE, hB, hml, hown, hts, hK, hA⟩ := id K
  have i1 := isI_le c 4
  have i2 := isI_le x 16
  refine lv_aload_n hE hB dX1_add_0 rfl (lv_at hl 0 rfl) ?_
  refine lv_iload_n hE hB dX1_add_1 rfl (lv_at hl 1 rfl) ?_
  refine kX1_core K hI  rfl hl.1 ⟨Nat.le_of_ble_eq_true rfl, Nat.le_of_ble_eq_true rfl⟩ (Nat.le_of_ble_eq_true rfl) ⟨Nat.zero_le _, Nat.zero_le _⟩ dX1_add_2 (fun H locs hI => ?_)
  refine n_if_eq (tgt := 16) hE hB (by omega) dX1_add_5 (by decide) (fun h_5 => ?_) (fun h_5 => ?_)
  · refine lv_iconst (v := -1) hE hB dX1_add_16 (by decide) ?_
    exact g_iret K hr hlk hI rfl rfl dX1_add_17
  · refine lv_aload_n hE hB dX1_add_8 rfl (lv_at hl 0 rfl) ?_
    refine lv_iload_n hE hB dX1_add_9 rfl (lv_at hl 2 rfl) ?_
    refine kX1_cell K hI  rfl hl.1 ⟨Nat.le_of_ble_eq_true rfl, Nat.le_of_ble_eq_true rfl⟩ (Nat.le_of_ble_eq_true rfl) ⟨Nat.zero_le _, Nat.zero_le _⟩ dX1_add_10 (fun H locs hI => ?_)
    refine n_if_ne (tgt := 18) hE hB (by omega) dX1_add_13 (by decide) (fun h_13 => ?_) (fun h_13 => ?_)
    · omega
    · refine lv_iconst (v := -1) hE hB dX1_add_16 (by decide) ?_
      exact g_iret K hr hlk hI rfl rfl dX1_add_17
set_option maxHeartbeats 4000000 in
set_option maxRecDepth 100000 in
theorem met_X1_end_bad {l : Launch} {D : va_G} {o : Nat} {a : Nat → Nat} {d : Nat → ClassId} {M : MS} {c : Int32} (h : isI c 4 = 0) : GMi l yX1_end (ws_ yX1_end cX1_end 4 (some .int)) (rmD 1) D (tysM d) (wM o a d M) [.ref o, .int c] (wM o a d M) (-1) := by
  refine GMi.of (by decide) (Nat.le_of_ble_eq_true rfl) ?_
  intro p e s m args below meth cd A ls K hr hlk hI hl
  have K : GC RX1 (tysM d) D A p s m args cd cX1_end 4 := K
  have hl : lv_has ls 4 [(0, .ref o), (1, .int c)] := hl
  obtain ⟨hE, hB, hml, hown, hts, hK, hA⟩ := id K
  have i1 := isI_le c 4
  refine lv_aload_n hE hB dX1_end_0 rfl (lv_at hl 0 rfl) ?_
  refine lv_iload_n hE hB dX1_end_1 rfl (lv_at hl 1 rfl) ?_
  refine kX1_core K hI  rfl hl.1 ⟨Nat.le_of_ble_eq_true rfl, Nat.le_of_ble_eq_true rfl⟩ (Nat.le_of_ble_eq_true rfl) ⟨Nat.zero_le _, Nat.zero_le _⟩ dX1_end_2 (fun H locs hI => ?_)
  refine n_if_eq (tgt := 17) hE hB (by omega) dX1_end_5 (by decide) (fun h_5 => ?_) (fun h_5 => ?_)
  · refine lv_iconst (v := -1) hE hB dX1_end_17 (by decide) ?_
    exact g_iret K hr hlk hI rfl rfl dX1_end_18
  · omega
set_option maxHeartbeats 4000000 in
set_option maxRecDepth 100000 in
theorem met_X1_giveUp_bad {l : Launch} {D : va_G} {o : Nat} {a : Nat → Nat} {d : Nat → ClassId} {M : MS} {c : Int32} (h : isI c 4 = 0) : GMi l yX1_giveUp (ws_ yX1_giveUp cX1_giveUp 2 (some .int)) (rmD 1) D (tysM d) (wM o a d M) [.ref o, .int c] (wM o a d M) (-1) := by
  refine GMi.of (by decide) (Nat.le_of_ble_eq_true rfl) ?_
  intro p e s m args below meth cd A ls K hr hlk hI hl
  have K : GC RX1 (tysM d) D A p s m args cd cX1_giveUp 2 := K
  have hl : lv_has ls 2 [(0, .ref o), (1, .int c)] := hl
  obtain ⟨hE, hB, hml, hown, hts, hK, hA⟩ := id K
  have i1 := isI_le c 4
  refine lv_aload_n hE hB dX1_giveUp_0 rfl (lv_at hl 0 rfl) ?_
  refine lv_iload_n hE hB dX1_giveUp_1 rfl (lv_at hl 1 rfl) ?_
  refine kX1_core K hI  rfl hl.1 ⟨Nat.le_of_ble_eq_true rfl, Nat.le_of_ble_eq_true rfl⟩ (Nat.le_of_ble_eq_true rfl) ⟨Nat.zero_le _, Nat.zero_le _⟩ dX1_giveUp_2 (fun H locs hI => ?_)
  refine n_if_eq (tgt := 17) hE hB (by omega) dX1_giveUp_5 (by decide) (fun h_5 => ?_) (fun h_5 => ?_)
  · refine lv_iconst (v := -1) hE hB dX1_giveUp_17 (by decide) ?_
    exact g_iret K hr hlk hI rfl rfl dX1_giveUp_18
  · omega
set_option maxHeartbeats 4000000 in
set_option maxRecDepth 100000 in
theorem met_X1_giveAllUp_bad {l : Launch} {D : va_G} {o : Nat} {a : Nat → Nat} {d : Nat → ClassId} {M : MS} {c : Int32} (h : isI c 4 = 0) : GMi l yX1_giveAllUp (ws_ yX1_giveAllUp cX1_giveAllUp 3 (some .int)) (rmD 1) D (tysM d) (wM o a d M) [.ref o, .int c] (wM o a d M) (-1) := by
  refine GMi.of (by decide) (Nat.le_of_ble_eq_true rfl) ?_
  intro p e s m args below meth cd A ls K hr hlk hI hl
  have K : GC RX1 (tysM d) D A p s m args cd cX1_giveAllUp 3 := K
  have hl : lv_has ls 3 [(0, .ref o), (1, .int c)] := hl
  obtain ⟨hE, hB, hml, hown, hts, hK, hA⟩ := id K
  have i1 := isI_le c 4
  refine lv_aload_n hE hB dX1_giveAllUp_0 rfl (lv_at hl 0 rfl) ?_
  refine lv_iload_n hE hB dX1_giveAllUp_1 rfl (lv_at hl 1 rfl) ?_
  refine kX1_core K hI  rfl hl.1 ⟨Nat.le_of_ble_eq_true rfl, Nat.le_of_ble_eq_true rfl⟩ (Nat.le_of_ble_eq_true rfl) ⟨Nat.zero_le _, Nat.zero_le _⟩ dX1_giveAllUp_2 (fun H locs hI => ?_)
  refine n_if_ne (tgt := 10) hE hB (by omega) dX1_giveAllUp_5 (by decide) (fun h_5 => ?_) (fun h_5 => ?_)
  · omega
  · refine lv_iconst (v := -1) hE hB dX1_giveAllUp_8 (by decide) ?_
    exact g_iret K hr hlk hI rfl rfl dX1_giveAllUp_9
set_option maxHeartbeats 4000000 in
set_option maxRecDepth 100000 in
theorem met_X1_level_bad {l : Launch} {D : va_G} {o : Nat} {a : Nat → Nat} {d : Nat → ClassId} {M : MS} {c : Int32} (h : isI c 4 = 0) : GMi l yX1_level (ws_ yX1_level cX1_level 2 (some .int)) (rmD 1) D (tysM d) (wM o a d M) [.ref o, .int c] (wM o a d M) (-1) := by
  refine GMi.of (by decide) (Nat.le_of_ble_eq_true rfl) ?_
  intro p e s m args below meth cd A ls K hr hlk hI hl
  have K : GC RX1 (tysM d) D A p s m args cd cX1_level 2 := K
  have hl : lv_has ls 2 [(0, .ref o), (1, .int c)] := hl
  obtain ⟨hE, hB, hml, hown, hts, hK, hA⟩ := id K
  have i1 := isI_le c 4
  refine lv_aload_n hE hB dX1_level_0 rfl (lv_at hl 0 rfl) ?_
  refine lv_iload_n hE hB dX1_level_1 rfl (lv_at hl 1 rfl) ?_
  refine kX1_core K hI  rfl hl.1 ⟨Nat.le_of_ble_eq_true rfl, Nat.le_of_ble_eq_true rfl⟩ (Nat.le_of_ble_eq_true rfl) ⟨Nat.zero_le _, Nat.zero_le _⟩ dX1_level_2 (fun H locs hI => ?_)
  refine n_if_eq (tgt := 17) hE hB (by omega) dX1_level_5 (by decide) (fun h_5 => ?_) (fun h_5 => ?_)
  · refine lv_iconst (v := -1) hE hB dX1_level_17 (by decide) ?_
    exact g_iret K hr hlk hI rfl rfl dX1_level_18
  · omega
set_option maxHeartbeats 4000000 in
set_option maxRecDepth 100000 in
theorem met_X1_committed_bad {l : Launch} {D : va_G} {o : Nat} {a : Nat → Nat} {d : Nat → ClassId} {M : MS} {x : Int32} (h : isI x 16 = 0) : GMi l yX1_committed (ws_ yX1_committed cX1_committed 2 (some .int)) (rmD 1) D (tysM d) (wM o a d M) [.ref o, .int x] (wM o a d M) (nI 0) := by
  refine GMi.of (by decide) (Nat.le_of_ble_eq_true rfl) ?_
  intro p e s m args below meth cd A ls K hr hlk hI hl
  have K : GC RX1 (tysM d) D A p s m args cd cX1_committed 2 := K
  have hl : lv_has ls 2 [(0, .ref o), (1, .int x)] := hl
  obtain ⟨hE, hB, hml, hown, hts, hK, hA⟩ := id K
  have i2 := isI_le x 16
  refine lv_aload_n hE hB dX1_committed_0 rfl (lv_at hl 0 rfl) ?_
  refine lv_iload_n hE hB dX1_committed_1 rfl (lv_at hl 1 rfl) ?_
  refine kX1_cell K hI  rfl hl.1 ⟨Nat.le_of_ble_eq_true rfl, Nat.le_of_ble_eq_true rfl⟩ (Nat.le_of_ble_eq_true rfl) ⟨Nat.zero_le _, Nat.zero_le _⟩ dX1_committed_2 (fun H locs hI => ?_)
  refine n_if_eq (tgt := 17) hE hB (by omega) dX1_committed_5 (by decide) (fun h_5 => ?_) (fun h_5 => ?_)
  · refine lv_iconst (v := nI 0) hE hB dX1_committed_17 (by decide) ?_
    exact g_iret K hr hlk hI rfl rfl dX1_committed_18
  · omega
set_option maxHeartbeats 4000000 in
set_option maxRecDepth 100000 in
theorem met_X1_readBy_bad {l : Launch} {D : va_G} {o : Nat} {a : Nat → Nat} {d : Nat → ClassId} {M : MS} {c : Int32} (h : isI c 4 = 0) : GMi l yX1_readBy (ws_ yX1_readBy cX1_readBy 2 (some .int)) (rmD 1) D (tysM d) (wM o a d M) [.ref o, .int c] (wM o a d M) (nI 0) := by
  refine GMi.of (by decide) (Nat.le_of_ble_eq_true rfl) ?_
  intro p e s m args below meth cd A ls K hr hlk hI hl
  have K : GC RX1 (tysM d) D A p s m args cd cX1_readBy 2 := K
  have hl : lv_has ls 2 [(0, .ref o), (1, .int c)] := hl
  obtain ⟨hE, hB, hml, hown, hts, hK, hA⟩ := id K
  have i1 := isI_le c 4
  refine lv_aload_n hE hB dX1_readBy_0 rfl (lv_at hl 0 rfl) ?_
  refine lv_iload_n hE hB dX1_readBy_1 rfl (lv_at hl 1 rfl) ?_
  refine kX1_core K hI  rfl hl.1 ⟨Nat.le_of_ble_eq_true rfl, Nat.le_of_ble_eq_true rfl⟩ (Nat.le_of_ble_eq_true rfl) ⟨Nat.zero_le _, Nat.zero_le _⟩ dX1_readBy_2 (fun H locs hI => ?_)
  refine n_if_eq (tgt := 16) hE hB (by omega) dX1_readBy_5 (by decide) (fun h_5 => ?_) (fun h_5 => ?_)
  · refine lv_iconst (v := nI 0) hE hB dX1_readBy_16 (by decide) ?_
    exact g_iret K hr hlk hI rfl rfl dX1_readBy_17
  · omega
set_option maxHeartbeats 4000000 in
set_option maxRecDepth 100000 in
theorem met_X1_writtenBy_bad {l : Launch} {D : va_G} {o : Nat} {a : Nat → Nat} {d : Nat → ClassId} {M : MS} {c : Int32} (h : isI c 4 = 0) : GMi l yX1_writtenBy (ws_ yX1_writtenBy cX1_writtenBy 2 (some .int)) (rmD 1) D (tysM d) (wM o a d M) [.ref o, .int c] (wM o a d M) (nI 0) := by
  refine GMi.of (by decide) (Nat.le_of_ble_eq_true rfl) ?_
  intro p e s m args below meth cd A ls K hr hlk hI hl
  have K : GC RX1 (tysM d) D A p s m args cd cX1_writtenBy 2 := K
  have hl : lv_has ls 2 [(0, .ref o), (1, .int c)] := hl
  obtain ⟨hE, hB, hml, hown, hts, hK, hA⟩ := id K
  have i1 := isI_le c 4
  refine lv_aload_n hE hB dX1_writtenBy_0 rfl (lv_at hl 0 rfl) ?_
  refine lv_iload_n hE hB dX1_writtenBy_1 rfl (lv_at hl 1 rfl) ?_
  refine kX1_core K hI  rfl hl.1 ⟨Nat.le_of_ble_eq_true rfl, Nat.le_of_ble_eq_true rfl⟩ (Nat.le_of_ble_eq_true rfl) ⟨Nat.zero_le _, Nat.zero_le _⟩ dX1_writtenBy_2 (fun H locs hI => ?_)
  refine n_if_eq (tgt := 16) hE hB (by omega) dX1_writtenBy_5 (by decide) (fun h_5 => ?_) (fun h_5 => ?_)
  · refine lv_iconst (v := nI 0) hE hB dX1_writtenBy_16 (by decide) ?_
    exact g_iret K hr hlk hI rfl rfl dX1_writtenBy_17
  · omega
set_option maxHeartbeats 4000000 in
set_option maxRecDepth 100000 in
theorem met_X1_rivals_bad {l : Launch} {D : va_G} {o : Nat} {a : Nat → Nat} {d : Nat → ClassId} {M : MS} {c x v : Int32} (h : isI c 4 = 0 ∨ isI x 16 = 0 ∨ (¬ v = 0 ∧ ¬ v = nI 1)) : GMi l yX1_rivals (ws_ yX1_rivals cX1_rivals 4 (some .int)) (rmD 2) D (tysM d) (wM o a d M) [.ref o, .int c, .int x, .int v] (wM o a d M) (nI 0) := by
  refine GMi.of (by decide) (Nat.le_of_ble_eq_true rfl) ?_
  intro p e s m args below meth cd A ls K hr hlk hI hl
  have K : GC RX1 (tysM d) D A p s m args cd cX1_rivals 4 := K
  have hl : lv_has ls 4 [(0, .ref o), (1, .int c), (2, .int x), (3, .int v)] := hl
  obtain ⟨hE, hB, hml, hown, hts, hK, hA⟩ := id K
  have i1 := isI_le c 4
  have i2 := isI_le x 16
  refine lv_aload_n hE hB dX1_rivals_0 rfl (lv_at hl 0 rfl) ?_
  refine lv_iload_n hE hB dX1_rivals_1 rfl (lv_at hl 1 rfl) ?_
  refine kX1_core K hI  rfl hl.1 ⟨Nat.le_of_ble_eq_true rfl, Nat.le_of_ble_eq_true rfl⟩ (Nat.le_of_ble_eq_true rfl) ⟨Nat.zero_le _, Nat.zero_le _⟩ dX1_rivals_2 (fun H locs hI => ?_)
  refine n_if_eq (tgt := 43) hE hB (by omega) dX1_rivals_5 (by decide) (fun h_5 => ?_) (fun h_5 => ?_)
  · refine lv_iconst (v := nI 0) hE hB dX1_rivals_43 (by decide) ?_
    exact g_iret K hr hlk hI rfl rfl dX1_rivals_44
  · refine lv_aload_n hE hB dX1_rivals_8 rfl (lv_at hl 0 rfl) ?_
    refine lv_iload_n hE hB dX1_rivals_9 rfl (lv_at hl 2 rfl) ?_
    refine kX1_cell K hI  rfl hl.1 ⟨Nat.le_of_ble_eq_true rfl, Nat.le_of_ble_eq_true rfl⟩ (Nat.le_of_ble_eq_true rfl) ⟨Nat.zero_le _, Nat.zero_le _⟩ dX1_rivals_10 (fun H locs hI => ?_)
    refine n_if_eq (tgt := 43) hE hB (by omega) dX1_rivals_13 (by decide) (fun h_13 => ?_) (fun h_13 => ?_)
    · refine lv_iconst (v := nI 0) hE hB dX1_rivals_43 (by decide) ?_
      exact g_iret K hr hlk hI rfl rfl dX1_rivals_44
    · refine lv_iload_n hE hB dX1_rivals_16 rfl (lv_at hl 3 rfl) ?_
      refine lv_if_eq (tgt := 25) hE hB dX1_rivals_17 (by decide) (fun h_17 => ?_) (fun h_17 => ?_)
      · exact absurd h_17 (by rcases h with h | h | h; omega; omega; exact h.1)
      · refine lv_iload_n hE hB dX1_rivals_20 rfl (lv_at hl 3 rfl) ?_
        refine lv_iconst (v := nI 1) hE hB dX1_rivals_21 (by decide) ?_
        refine lv_icmp_ne (tgt := 43) hE hB dX1_rivals_22 (by decide) (fun h_22 => ?_) (fun h_22 => ?_)
        · refine lv_iconst (v := nI 0) hE hB dX1_rivals_43 (by decide) ?_
          exact g_iret K hr hlk hI rfl rfl dX1_rivals_44
        · exact absurd h_22 (by rcases h with h | h | h; omega; omega; exact h.2)
end
section
/-! the caches' invariant, and the newest value NV of a cell -/
def CI (C : CS) : Prop := WC C ∧ (∀ j, j < 16 → cS C j ≠ 0 → cG C j % 4 = j % 4) ∧ (∀ i, i < 16 → ∀ j, j < 16 → i ≠ j → cS C i ≠ 0 → cS C j ≠ 0 → cG C i = cG C j → cS C i = 1) ∧ ∀ j, j < 16 → cS C j ≠ 0 → cS C j ≠ 3 → cD C j = cM C (cG C j)
def NV (C : CS) (x : Nat) (v : Int32) : Prop := (∃ j, j < 16 ∧ cS C j = 3 ∧ cG C j = x ∧ cD C j = v) ∨ ((∀ j, j < 16 → cS C j = 3 → cG C j ≠ x) ∧ cM C x = v)
def Pres (C C' : CS) : Prop := CI C' ∧ ∀ x, x < 16 → ∀ v, NV C x v → NV C' x v
theorem Pres.refl {C : CS} (h : CI C) : Pres C C := ⟨h, fun _ _ _ h => h⟩
theorem Pres.trans {C C' C'' : CS} (h : Pres C C') (h' : Pres C' C'') : Pres C C'' := ⟨h'.1, fun x hx v q => h'.2 x hx v (h.2 x hx v q)⟩
theorem hld_0 {C : CS} {c x : Nat} (h : hld C c x = 0) : cS C (lnO c x) = 0 ∨ cG C (lnO c x) ≠ x := by
  unfold hld at h
  by_cases h0 : cS C (lnO c x) = 0
  · exact Or.inl h0
  · rw [if_neg h0] at h
    by_cases h1 : cG C (lnO c x) = x
    · rw [if_pos h1] at h
      omega
    · exact Or.inr h1
theorem hld_1 {C : CS} {c x : Nat} (h : ¬ hld C c x = 0) : cS C (lnO c x) ≠ 0 ∧ cG C (lnO c x) = x := by
  unfold hld at h
  by_cases h0 : cS C (lnO c x) = 0
  · exact absurd (if_pos h0) h
  · rw [if_neg h0] at h
    by_cases h1 : cG C (lnO c x) = x
    · exact ⟨h0, h1⟩
    · exact absurd (if_neg h1) h
theorem hld_of {C : CS} {c x : Nat} (h0 : cS C (lnO c x) ≠ 0) (h1 : cG C (lnO c x) = x) : ¬ hld C c x = 0 := by
  unfold hld
  rw [if_neg h0, if_pos h1]
  omega
theorem ln_of {j x : Nat} (h : x % 4 = j % 4) : lnO (j / 4) x = j := by
  unfold lnO
  omega
theorem ln_mod (c x : Nat) : lnO c x % 4 = x % 4 := by
  unfold lnO
  omega
theorem ln_ne {c d x : Nat} (h : c ≠ d) : lnO c x ≠ lnO d x := by
  unfold lnO
  omega
/-- a line that holds x is line c of a core -/
theorem CI.at {C : CS} (h : CI C) {j x : Nat} (hj : j < 16) (h0 : cS C j ≠ 0) (hx : cG C j = x) : lnO (j / 4) x = j := ln_of (by rw [← hx]; exact h.2.1 j hj h0)
theorem NV_uniq {C : CS} (h : CI C) {x : Nat} {v w : Int32} (hv : NV C x v) (hw : NV C x w) : v = w := by
  obtain ⟨_, _, hu, _⟩ := h
  rcases hv with ⟨j, hj, h3, hg, hd⟩ | ⟨hn, hm⟩
  · rcases hw with ⟨i, hi, h3', hg', hd'⟩ | ⟨hn', hm'⟩
    · by_cases e : j = i
      · subst e
        rw [← hd, ← hd']
      · have := hu j hj i hi e (by omega) (by omega) (by rw [hg, hg'])
        omega
    · exact absurd hg (hn' j hj h3)
  · rcases hw with ⟨i, hi, h3', hg', hd'⟩ | ⟨hn', hm'⟩
    · exact absurd hg' (hn i hi h3')
    · rw [← hm, ← hm']
theorem NV_nwL {C : CS} (h : CI C) {x : Nat} : ∀ (n k : Nat), k + n = 4 → (∀ d, d < k → ¬ (cS C (lnO d x) = 3 ∧ cG C (lnO d x) = x)) → NV C x (nwL C x n k) := by
  intro n
  induction n with
  | zero =>
    intro k hk hd
    refine Or.inr ⟨fun j hj h3 hg => ?_, rfl⟩
    have e := h.at hj (by omega) hg
    exact hd (j / 4) (by omega) ⟨by rw [e]; exact h3, by rw [e]; exact hg⟩
  | succ n ih =>
    intro k hk hd
    unfold nwL
    have next : ¬ (cS C (lnO k x) = 3 ∧ cG C (lnO k x) = x) → NV C x (nwL C x n (k + 1)) := by
      intro q
      refine ih (k + 1) (by omega) (fun d hd' => ?_)
      by_cases e : d = k
      · subst e
        exact q
      · exact hd d (by omega)
    by_cases h0 : hld C k x = 0
    · rw [if_pos h0]
      refine next (fun q => ?_)
      rcases hld_0 h0 with z | z
      · omega
      · exact z q.2
    · rw [if_neg h0]
      by_cases h3 : cS C (lnO k x) = 3
      · rw [if_pos h3]
        exact Or.inl ⟨lnO k x, lnO_lt (by omega) x, h3, (hld_1 h0).2, rfl⟩
      · rw [if_neg h3]
        exact next (fun q => h3 q.1)
theorem NV_nwst {C : CS} (h : CI C) (x : Nat) : NV C x (nwst C x) := NV_nwL h 4 0 rfl (fun d hd => absurd hd (Nat.not_lt_zero d))
theorem Pres.nw {C C' : CS} (hC : CI C) (h : Pres C C') {x : Nat} (hx : x < 16) : nwst C' x = nwst C x := NV_uniq h.1 (NV_nwst h.1 x) (h.2 x hx _ (NV_nwst hC x))
/-! single steps -/
theorem wbk_2 (C : CS) (ln : Nat) : (wbk C ln).2 = C.2 := by
  unfold wbk
  split <;> rfl
theorem wbk_m {C : CS} {ln : Nat} (h3 : cS C ln = 3) : (wbk C ln).1 = upd (cM C) (cG C ln) (cD C ln) := by
  unfold wbk
  rw [if_pos h3]
theorem wbk_n {C : CS} {ln : Nat} (h3 : ¬ cS C ln = 3) : wbk C ln = C := by
  unfold wbk
  rw [if_neg h3]
theorem wbk_G (C : CS) (ln : Nat) : cG (wbk C ln) = cG C := by
  show (wbk C ln).2.1 = C.2.1
  rw [wbk_2]
theorem wbk_S (C : CS) (ln : Nat) : cS (wbk C ln) = cS C := by
  show (wbk C ln).2.2.1 = C.2.2.1
  rw [wbk_2]
theorem wbk_D (C : CS) (ln : Nat) : cD (wbk C ln) = cD C := by
  show (wbk C ln).2.2.2 = C.2.2.2
  rw [wbk_2]
theorem wbk_clean {C : CS} {ln : Nat} : cS (wbk C ln) ln = 3 → cM (wbk C ln) (cG (wbk C ln) ln) = cD (wbk C ln) ln := by
  rw [wbk_S, wbk_G, wbk_D]
  intro h3
  show (wbk C ln).1 _ = _
  rw [wbk_m h3, pk_us]
theorem Pres_wbk {C : CS} (h : CI C) {ln : Nat} (hln : ln < 16) : Pres C (wbk C ln) := by
  by_cases h3 : cS C ln = 3
  · obtain ⟨hW, ht, hu, hs⟩ := h
    refine ⟨⟨WC_wbk hW ln, ?_, ?_, ?_⟩, ?_⟩
    · rw [wbk_S, wbk_G]
      exact ht
    · rw [wbk_S, wbk_G]
      exact hu
    · rw [wbk_S, wbk_G, wbk_D]
      intro j hj h0 hn3
      show _ = (wbk C ln).1 _
      have e : cG C j ≠ cG C ln := by
        intro e
        have := hu ln hln j hj (fun q => by subst q; exact hn3 h3) (by omega) h0 e.symm
        omega
      rw [wbk_m h3, pk_un e]
      exact hs j hj h0 hn3
    · intro x hx v hv
      rcases hv with ⟨j, hj, h3', hg, hd⟩ | ⟨hn, hm⟩
      · left
        refine ⟨j, hj, ?_, ?_, ?_⟩
        · rw [wbk_S]; exact h3'
        · rw [wbk_G]; exact hg
        · rw [wbk_D]; exact hd
      · right
        rw [wbk_S, wbk_G]
        refine ⟨hn, ?_⟩
        show (wbk C ln).1 _ = _
        rw [wbk_m h3, pk_un (fun e => hn ln hln h3 e.symm)]
        exact hm
  · rw [wbk_n h3]
    exact Pres.refl h
theorem Pres_share {C : CS} (h : CI C) {ln : Nat} (hln : ln < 16) (h0 : cS C ln ≠ 0) (hc : cS C ln = 3 → cM C (cG C ln) = cD C ln) : Pres C (stS C ln 1) := by
  obtain ⟨hW, ht, hu, hs⟩ := h
  have e1 : ∀ j, j ≠ ln → cS (stS C ln 1) j = cS C j := fun j hj => upN_n hj
  have e2 : cS (stS C ln 1) ln = 1 := upN_s
  have nz : ∀ j, cS (stS C ln 1) j ≠ 0 → cS C j ≠ 0 := by
    intro j q
    by_cases e : j = ln
    · rw [e]; exact h0
    · rw [← e1 j e]; exact q
  refine ⟨⟨WC_stS hW ln (by omega), ?_, ?_, ?_⟩, ?_⟩
  · intro j hj q
    exact ht j hj (nz j q)
  · intro i hi j hj hij qi qj hg
    by_cases e : i = ln
    · rw [e, e2]
    · rw [e1 i e]
      exact hu i hi j hj hij (nz i qi) (nz j qj) hg
  · intro j hj q q3
    show cD C j = cM C (cG C j)
    by_cases e : j = ln
    · subst e
      by_cases h3 : cS C j = 3
      · exact (hc h3).symm
      · exact hs j hj h0 h3
    · rw [e1 j e] at q q3
      exact hs j hj q q3
  · intro x hx v hv
    rcases hv with ⟨j, hj, h3, hg, hd⟩ | ⟨hn, hm⟩
    · by_cases e : j = ln
      · right
        subst e
        refine ⟨fun i hi q hg' => ?_, ?_⟩
        · by_cases e' : i = j
          · rw [e', e2] at q
            omega
          · rw [e1 i e'] at q
            have := hu i hi j hj e' (by omega) h0 (hg'.trans hg.symm)
            omega
        · show cM C x = v
          rw [← hd, ← hc h3, hg]
      · left
        exact ⟨j, hj, by rw [e1 j e]; exact h3, hg, hd⟩
    · right
      refine ⟨fun i hi q => ?_, hm⟩
      by_cases e' : i = ln
      · rw [e', e2] at q
        omega
      · rw [e1 i e'] at q
        exact hn i hi q
theorem Pres_drop {C : CS} (h : CI C) {ln : Nat} (h3 : cS C ln ≠ 3) : Pres C (stS C ln 0) := by
  obtain ⟨hW, ht, hu, hs⟩ := h
  have e1 : ∀ j, j ≠ ln → cS (stS C ln 0) j = cS C j := fun j hj => upN_n hj
  have e2 : cS (stS C ln 0) ln = 0 := upN_s
  have nz : ∀ j, cS (stS C ln 0) j ≠ 0 → j ≠ ln ∧ cS C j ≠ 0 := by
    intro j q
    by_cases e : j = ln
    · rw [e, e2] at q; omega
    · rw [e1 j e] at q; exact ⟨e, q⟩
  refine ⟨⟨WC_stS hW ln (by omega), ?_, ?_, ?_⟩, ?_⟩
  · intro j hj q
    exact ht j hj (nz j q).2
  · intro i hi j hj hij qi qj hg
    rw [e1 i (nz i qi).1]
    exact hu i hi j hj hij (nz i qi).2 (nz j qj).2 hg
  · intro j hj q q3
    rw [e1 j (nz j q).1] at q3
    exact hs j hj (nz j q).2 q3
  · intro x hx v hv
    rcases hv with ⟨j, hj, h3', hg, hd⟩ | ⟨hn, hm⟩
    · left
      have e : j ≠ ln := fun e => h3 (by rw [← e]; exact h3')
      exact ⟨j, hj, by rw [e1 j e]; exact h3', hg, hd⟩
    · right
      refine ⟨fun i hi q => ?_, hm⟩
      by_cases e' : i = ln
      · rw [e', e2] at q
        omega
      · rw [e1 i e'] at q
        exact hn i hi q
theorem Pres_ftE {C : CS} {sh c x : Nat} (h : CI C) (hc : c < 4) (hx : x < 16) (hcl : cS C (lnO c x) = 3 → cM C (cG C (lnO c x)) = cD C (lnO c x)) (ho : ∀ j, j < 16 → j ≠ lnO c x → cS C j ≠ 0 → cG C j = x → cS C j = 1 ∧ sh ≠ 0) : Pres C (ftE (C, sh) c x) ∧ cS (ftE (C, sh) c x) (lnO c x) ≠ 0 ∧ cG (ftE (C, sh) c x) (lnO c x) = x := by
  obtain ⟨hW, ht, hu, hs⟩ := h
  have hln := lnO_lt hc x
  have hmod := ln_mod c x
  generalize hF : ftE (C, sh) c x = F
  have fM : cM F = cM C := by rw [← hF]; rfl
  have fG : ∀ j, j ≠ lnO c x → cG F j = cG C j := fun j hj => by rw [← hF]; exact upN_n hj
  have fS : ∀ j, j ≠ lnO c x → cS F j = cS C j := fun j hj => by rw [← hF]; exact upN_n hj
  have fD : ∀ j, j ≠ lnO c x → cD F j = cD C j := fun j hj => by rw [← hF]; exact pk_un hj
  have gG : cG F (lnO c x) = x := by rw [← hF]; exact upN_s
  have gS : cS F (lnO c x) = if sh = 0 then 2 else 1 := by rw [← hF]; exact upN_s
  have gD : cD F (lnO c x) = cM C x := by rw [← hF]; exact pk_us
  have hWF : WC F := by rw [← hF]; exact WC_ftE (Q := (C, sh)) hW c hx
  clear hF
  generalize lnO c x = ln at *
  have g3 : cS F ln ≠ 3 := by rw [gS]; split <;> omega
  have g0 : cS F ln ≠ 0 := by rw [gS]; split <;> omega
  refine ⟨⟨⟨hWF, ?_, ?_, ?_⟩, ?_⟩, g0, gG⟩
  · intro j hj q
    by_cases e : j = ln
    · rw [e, gG]
      exact hmod.symm
    · rw [fS j e] at q
      rw [fG j e]
      exact ht j hj q
  · intro i hi j hj hij qi qj hg
    by_cases ei : i = ln
    · have ej : j ≠ ln := fun q => hij (by rw [ei, q])
      rw [fS j ej] at qj
      rw [ei, gG, fG j ej] at hg
      have := ho j hj ej qj hg.symm
      rw [ei, gS, if_neg this.2]
    · by_cases ej : j = ln
      · rw [fS i ei] at qi ⊢
        rw [ej, gG, fG i ei] at hg
        exact (ho i hi ei qi hg).1
      · rw [fS i ei] at qi ⊢
        rw [fS j ej] at qj
        rw [fG i ei, fG j ej] at hg
        exact hu i hi j hj hij qi qj hg
  · intro j hj q q3
    by_cases e : j = ln
    · rw [e, gD, gG, fM]
    · rw [fS j e] at q q3
      rw [fD j e, fG j e, fM]
      exact hs j hj q q3
  · intro y hy v hv
    rcases hv with ⟨j, hj, h3, hg, hd⟩ | ⟨hn, hm⟩
    · by_cases e : j = ln
      · right
        subst e
        refine ⟨fun i hi q hg' => ?_, ?_⟩
        · by_cases e' : i = j
          · rw [e'] at q
            exact g3 q
          · rw [fS i e'] at q
            rw [fG i e'] at hg'
            have := hu i hi j hj e' (by omega) (by omega) (hg'.trans hg.symm)
            omega
        · rw [fM, ← hd, ← hcl h3, hg]
      · left
        exact ⟨j, hj, by rw [fS j e]; exact h3, by rw [fG j e]; exact hg, by rw [fD j e]; exact hd⟩
    · right
      refine ⟨fun i hi q => ?_, by rw [fM]; exact hm⟩
      by_cases e' : i = ln
      · rw [e'] at q
        exact absurd q g3
      · rw [fS i e'] at q
        rw [fG i e']
        exact hn i hi q
/-! fetch -/
def FI (C : CS) (sh c x d : Nat) : Prop := CI C ∧ (cS C (lnO c x) = 3 → cM C (cG C (lnO c x)) = cD C (lnO c x)) ∧ hld C c x = 0 ∧ ∀ i, i < d → i ≠ c → ¬ hld C i x = 0 → cS C (lnO i x) = 1 ∧ sh ≠ 0
theorem FI_step {C : CS} {sh c x d : Nat} (h : FI C sh c x d) (hd : d < 4) (hx : x < 16) (hdc : d ≠ c) (hh : ¬ hld C d x = 0) : FI (stS (wbk C (lnO d x)) (lnO d x) 1) 1 c x (d + 1) ∧ Pres C (stS (wbk C (lnO d x)) (lnO d x) 1) := by
  obtain ⟨hC, hcl, hl, ho⟩ := h
  have hln := lnO_lt hd x
  have hne := ln_ne (x := x) hdc
  obtain ⟨q0, q1⟩ := hld_1 hh
  have p1 := Pres_wbk hC hln
  have p2 : Pres (wbk C (lnO d x)) (stS (wbk C (lnO d x)) (lnO d x) 1) := Pres_share p1.1 hln (by rw [wbk_S]; exact q0) wbk_clean
  have p := p1.trans p2
  have eS : ∀ j, j ≠ lnO d x → cS (stS (wbk C (lnO d x)) (lnO d x) 1) j = cS C j := fun j hj => by
    show upN (cS (wbk C (lnO d x))) _ _ j = _
    rw [upN_n hj, wbk_S]
  have eS1 : cS (stS (wbk C (lnO d x)) (lnO d x) 1) (lnO d x) = 1 := upN_s
  have eG : cG (stS (wbk C (lnO d x)) (lnO d x) 1) = cG C := wbk_G C _
  have eD : cD (stS (wbk C (lnO d x)) (lnO d x) 1) = cD C := wbk_D C _
  have eM : ∀ y, y ≠ x → cM (stS (wbk C (lnO d x)) (lnO d x) 1) y = cM C y := by
    intro y hy
    show (wbk C (lnO d x)).1 y = _
    by_cases h3 : cS C (lnO d x) = 3
    · rw [wbk_m h3, pk_un (by rw [q1]; exact hy)]
    · rw [wbk_n h3]
  generalize stS (wbk C (lnO d x)) (lnO d x) 1 = C2 at *
  have hl2 : hld C2 c x = 0 := by
    by_cases z : hld C2 c x = 0
    · exact z
    · obtain ⟨z0, z1⟩ := hld_1 z
      rw [eS _ (Ne.symm hne)] at z0
      rw [eG] at z1
      exact absurd hl (hld_of z0 z1)
  refine ⟨⟨p.1, ?_, hl2, ?_⟩, p⟩
  · rw [eS _ (Ne.symm hne), eG, eD]
    intro h3
    rw [eM _ (fun e => absurd hl (hld_of (by omega) e))]
    exact hcl h3
  · intro i hi hic hhi
    by_cases e : i = d
    · rw [e, eS1]
      exact ⟨rfl, by omega⟩
    · have ne : lnO i x ≠ lnO d x := ln_ne e
      obtain ⟨z0, z1⟩ := hld_1 hhi
      rw [eS _ ne] at z0 ⊢
      rw [eG] at z1
      exact ⟨(ho i (by omega) hic (hld_of z0 z1)).1, by omega⟩
theorem FI_next {C : CS} {sh c x d : Nat} (h : FI C sh c x d) (hs : d = c ∨ hld C d x = 0) : FI C sh c x (d + 1) := by
  obtain ⟨hC, hcl, hl, ho⟩ := h
  refine ⟨hC, hcl, hl, fun i hi hic hhi => ?_⟩
  by_cases e : i = d
  · rcases hs with q | q
    · exact absurd (e.trans q) hic
    · rw [e] at hhi
      exact absurd q hhi
  · exact ho i (by omega) hic hhi
theorem FI_ftL {c x : Nat} (hx : x < 16) : ∀ (n d : Nat) (C : CS) (sh : Nat), d + n = 4 → FI C sh c x d → FI (ftL c x n d C sh).1 (ftL c x n d C sh).2 c x 4 ∧ Pres C (ftL c x n d C sh).1 := by
  intro n
  induction n with
  | zero =>
    intro d C sh hd h
    obtain rfl : d = 4 := by omega
    exact ⟨h, Pres.refl h.1⟩
  | succ n ih =>
    intro d C sh hd h
    unfold ftL
    by_cases e : d = c
    · rw [if_pos e]
      exact ih (d + 1) C sh (by omega) (FI_next h (Or.inl e))
    · rw [if_neg e]
      by_cases hh : hld C d x = 0
      · rw [if_pos hh]
        exact ih (d + 1) C sh (by omega) (FI_next h (Or.inr hh))
      · rw [if_neg hh]
        obtain ⟨a1, a2⟩ := FI_step h (by omega) hx e hh
        obtain ⟨b1, b2⟩ := ih (d + 1) _ 1 (by omega) a1
        exact ⟨b1, a2.trans b2⟩
theorem ftch_ok {C : CS} (h : CI C) {c x : Nat} (hc : c < 4) (hx : x < 16) : Pres C (ftch C c x) ∧ cS (ftch C c x) (lnO c x) ≠ 0 ∧ cG (ftch C c x) (lnO c x) = x := by
  unfold ftch
  by_cases hh : hld C c x = 0
  · rw [if_pos hh]
    have hln := lnO_lt hc x
    have p1 := Pres_wbk h hln
    have f0 : FI (wbk C (lnO c x)) 0 c x 0 := by
      refine ⟨p1.1, wbk_clean, ?_, fun i hi => absurd hi (Nat.not_lt_zero i)⟩
      by_cases z : hld (wbk C (lnO c x)) c x = 0
      · exact z
      · obtain ⟨z0, z1⟩ := hld_1 z
        rw [wbk_S] at z0
        rw [wbk_G] at z1
        exact absurd hh (hld_of z0 z1)
    obtain ⟨f1, p2⟩ := FI_ftL hx 4 0 _ 0 rfl f0
    generalize ftL c x 4 0 (wbk C (lnO c x)) 0 = Q at f1 p2 ⊢
    obtain ⟨C2, sh⟩ := Q
    obtain ⟨hC2, hcl, hl, ho⟩ := f1
    obtain ⟨a1, a2⟩ := Pres_ftE (sh := sh) hC2 hc hx hcl (by
      intro j hj hne h0 hg
      have e := hC2.at hj h0 hg
      have := ho (j / 4) (by omega) (fun q => hne (by rw [← e, q])) (hld_of (by rw [e]; exact h0) (by rw [e]; exact hg))
      rw [e] at this
      exact this)
    exact ⟨(p1.trans p2).trans a1, a2⟩
  · rw [if_neg hh]
    exact ⟨Pres.refl h, hld_1 hh⟩
/-- a line that holds x has its newest value -/
theorem hold_nw {C : CS} (h : CI C) {j x : Nat} (hj : j < 16) (h0 : cS C j ≠ 0) (hg : cG C j = x) : cD C j = nwst C x := by
  refine NV_uniq h ?_ (NV_nwst h x)
  by_cases h3 : cS C j = 3
  · exact Or.inl ⟨j, hj, h3, hg, rfl⟩
  · refine Or.inr ⟨fun i hi q hg' => ?_, ?_⟩
    · have := h.2.2.1 i hi j hj (fun e => h3 (by rw [← e]; exact q)) (by omega) h0 (hg'.trans hg.symm)
      omega
    · rw [h.2.2.2 j hj h0 h3, hg]
/-! store -/
theorem stL_ok {c x : Nat} (hc : c < 4) : ∀ (n d : Nat) (C : CS), d + n = 4 → CI C → cS C (lnO c x) = 1 → cG C (lnO c x) = x → (∀ i, i < d → i ≠ c → hld C i x = 0) → Pres C (stL c x n d C) ∧ cS (stL c x n d C) (lnO c x) = 1 ∧ cG (stL c x n d C) (lnO c x) = x ∧ ∀ i, i < 4 → i ≠ c → hld (stL c x n d C) i x = 0 := by
  intro n
  induction n with
  | zero =>
    intro d C hd h h1 hg ho
    obtain rfl : d = 4 := by omega
    exact ⟨Pres.refl h, h1, hg, ho⟩
  | succ n ih =>
    intro d C hd h h1 hg ho
    unfold stL
    have next : (d = c ∨ hld C d x = 0) → ∀ i, i < d + 1 → i ≠ c → hld C i x = 0 := by
      intro q i hi hic
      by_cases e : i = d
      · rcases q with q | q
        · exact absurd (e.trans q) hic
        · rw [e]; exact q
      · exact ho i (by omega) hic
    by_cases e : d = c
    · rw [if_pos e]
      exact ih (d + 1) C (by omega) h h1 hg (next (Or.inl e))
    · rw [if_neg e]
      by_cases hh : hld C d x = 0
      · rw [if_pos hh]
        exact ih (d + 1) C (by omega) h h1 hg (next (Or.inr hh))
      · rw [if_neg hh]
        obtain ⟨q0, q1⟩ := hld_1 hh
        have hne : lnO d x ≠ lnO c x := ln_ne e
        have s1 : cS C (lnO d x) = 1 := h.2.2.1 _ (lnO_lt (by omega) x) _ (lnO_lt hc x) hne q0 (by omega) (q1.trans hg.symm)
        have p := Pres_drop h (ln := lnO d x) (by omega)
        have eS : ∀ j, j ≠ lnO d x → cS (stS C (lnO d x) 0) j = cS C j := fun j hj => upN_n hj
        have eS0 : cS (stS C (lnO d x) 0) (lnO d x) = 0 := upN_s
        obtain ⟨b1, b2⟩ := ih (d + 1) (stS C (lnO d x) 0) (by omega) p.1 (by rw [eS _ (Ne.symm hne)]; exact h1) hg (by
          intro i hi hic
          by_cases z : hld (stS C (lnO d x) 0) i x = 0
          · exact z
          · obtain ⟨z0, z1⟩ := hld_1 z
            by_cases ei : i = d
            · rw [ei, eS0] at z0
              omega
            · rw [eS _ (ln_ne ei)] at z0
              exact absurd (ho i (by omega) hic) (hld_of z0 z1))
        exact ⟨p.trans b1, b2⟩
theorem stF_ok {C : CS} (h : CI C) {c x : Nat} {v : Int32} (hc : c < 4) (h0 : cS C (lnO c x) ≠ 0) (hg : cG C (lnO c x) = x) (ho : ∀ j, j < 16 → j ≠ lnO c x → cS C j ≠ 0 → cG C j ≠ x) : CI (stF C c x v) ∧ NV (stF C c x v) x v ∧ ∀ y, y ≠ x → ∀ w, NV C y w → NV (stF C c x v) y w := by
  obtain ⟨hW, ht, hu, hs⟩ := h
  have hln := lnO_lt hc x
  have hWF := WC_stF hW c x v
  have fS : ∀ j, j ≠ lnO c x → cS (stF C c x v) j = cS C j := fun j hj => upN_n hj
  have gS : cS (stF C c x v) (lnO c x) = 3 := upN_s
  have fD : ∀ j, j ≠ lnO c x → cD (stF C c x v) j = cD C j := fun j hj => pk_un hj
  have gD : cD (stF C c x v) (lnO c x) = v := pk_us
  have fG : cG (stF C c x v) = cG C := rfl
  have fM : cM (stF C c x v) = cM C := rfl
  generalize stF C c x v = F at *
  generalize lnO c x = ln at *
  have nz : ∀ j, cS F j ≠ 0 → cS C j ≠ 0 := by
    intro j q
    by_cases e : j = ln
    · rw [e]; exact h0
    · rw [← fS j e]; exact q
  refine ⟨⟨hWF, ?_, ?_, ?_⟩, Or.inl ⟨ln, hln, gS, by rw [fG]; exact hg, gD⟩, ?_⟩
  · intro j hj q
    rw [fG]
    exact ht j hj (nz j q)
  · intro i hi j hj hij qi qj he
    rw [fG] at he
    by_cases ei : i = ln
    · have ej : j ≠ ln := fun q => hij (by rw [ei, q])
      exact absurd (by rw [← he, ei, hg]) (ho j hj ej (nz j qj))
    · by_cases ej : j = ln
      · exact absurd (by rw [he, ej, hg]) (ho i hi ei (nz i qi))
      · rw [fS i ei]
        exact hu i hi j hj hij (nz i qi) (nz j qj) he
  · intro j hj q q3
    by_cases e : j = ln
    · rw [e, gS] at q3
      omega
    · rw [fS j e] at q q3
      rw [fD j e, fM, fG]
      exact hs j hj q q3
  · intro y hy w hw
    rcases hw with ⟨j, hj, h3, hg', hd⟩ | ⟨hn, hm⟩
    · left
      have e : j ≠ ln := fun e => hy (by rw [← hg', e, hg])
      exact ⟨j, hj, by rw [fS j e]; exact h3, by rw [fG]; exact hg', by rw [fD j e]; exact hd⟩
    · right
      refine ⟨fun i hi q => ?_, by rw [fM]; exact hm⟩
      rw [fG]
      by_cases e : i = ln
      · rw [e, hg]
        exact fun z => hy z.symm
      · rw [fS i e] at q
        exact hn i hi q
theorem stor_ok {C : CS} (h : CI C) {c x : Nat} (v : Int32) (hc : c < 4) (hx : x < 16) : CI (stor C c x v) ∧ nwst (stor C c x v) x = v ∧ ∀ y, y < 16 → y ≠ x → nwst (stor C c x v) y = nwst C y := by
  obtain ⟨p, h0, hg⟩ := ftch_ok h hc hx
  have hln := lnO_lt hc x
  have fin : ∀ C2 : CS, Pres C C2 → cS C2 (lnO c x) ≠ 0 → cG C2 (lnO c x) = x → (∀ j, j < 16 → j ≠ lnO c x → cS C2 j ≠ 0 → cG C2 j ≠ x) → CI (stF C2 c x v) ∧ nwst (stF C2 c x v) x = v ∧ ∀ y, y < 16 → y ≠ x → nwst (stF C2 c x v) y = nwst C y := by
    intro C2 p2 h02 hg2 ho2
    obtain ⟨a1, a2, a3⟩ := stF_ok (v := v) p2.1 hc h02 hg2 ho2
    exact ⟨a1, NV_uniq a1 (NV_nwst a1 x) a2, fun y hy hyx => NV_uniq a1 (NV_nwst a1 y) (a3 y hyx _ (p2.2 y hy _ (NV_nwst h y)))⟩
  unfold stor
  by_cases h1 : cS (ftch C c x) (lnO c x) = 1
  · rw [if_pos h1]
    obtain ⟨b1, b2, b3, b4⟩ := stL_ok hc 4 0 _ rfl p.1 h1 hg (fun i hi => absurd hi (Nat.not_lt_zero i))
    refine fin _ (p.trans b1) (by omega) b3 (fun j hj hne q0 q1 => ?_)
    have e := b1.1.at hj q0 q1
    exact absurd (b4 (j / 4) (by omega) (fun q => hne (by rw [← e, q]))) (hld_of (by rw [e]; exact q0) (by rw [e]; exact q1))
  · rw [if_neg h1]
    refine fin _ p h0 hg (fun j hj hne q0 q1 => ?_)
    exact h1 (p.1.2.2.1 _ hln j hj (Ne.symm hne) h0 q0 (hg.trans q1.symm))
end
section
/-! the relation between the caches with their logs and the reference -/
def wrn (T : TS) (c x : Nat) : Prop := ∃ k, k < tL T c ∧ bN (tW T (c * 3 + k)) x = 1
def LG (T : TS) (M : MS) (c k : Nat) : Prop := tR T (c * 3 + k) = mR M (4 * c + (k + 1)) ∧ tW T (c * 3 + k) = mW M (4 * c + (k + 1)) ∧ tZ T (c * 3 + k) = cnt (tW T (c * 3 + k)) ∧ (∀ j, j < tZ T (c * 3 + k) → bN (tW T (c * 3 + k)) (tC T ((c * 3 + k) * 16 + j)) = 1 ∧ tO T ((c * 3 + k) * 16 + j) = seL M c (tC T ((c * 3 + k) * 16 + j)) k) ∧ ∀ x, x < 16 → bN (tW T (c * 3 + k)) x = 1 → ∃ j, j < tZ T (c * 3 + k) ∧ tC T ((c * 3 + k) * 16 + j) = x
def Rel (C : CS) (T : TS) (M : MS) : Prop := CI C ∧ WT T ∧ (∀ c, c < 4 → mL M c = tL T c) ∧ (∀ c, c < 4 → ∀ k, k < tL T c → LG T M c k) ∧ (∀ c, c < 4 → ∀ c', c' < 4 → c ≠ c' → ∀ x, x < 16 → wrn T c x → ¬ wrn T c' x) ∧ ∀ c, c < 4 → ∀ x, x < 16 → (∀ c', c' < 4 → c' ≠ c → ¬ wrn T c' x) → nwst C x = seL M c x (tL T c)
theorem Rel.wm {C : CS} {T : TS} {M : MS} (h : Rel C T M) : WM M := fun c hc => by
  rw [h.2.2.1 c hc]
  exact h.2.1.1 c hc
theorem seL_congr {M M' : MS} {c x : Nat} : ∀ k, mM M' x = mM M x → (∀ j, j < k → bN (mW M' (4 * c + (j + 1))) x = bN (mW M (4 * c + (j + 1))) x ∧ mV M' (16 * (4 * c + (j + 1)) + x) = mV M (16 * (4 * c + (j + 1)) + x)) → seL M' c x k = seL M c x k := by
  intro k
  induction k with
  | zero => intro h _; exact h
  | succ k ih =>
    intro h h2
    unfold seL
    rw [(h2 k (by omega)).1, (h2 k (by omega)).2, ih h (fun j hj => h2 j (by omega))]
theorem seL_none {M : MS} {c x : Nat} : ∀ k, (∀ j, j < k → ¬ bN (mW M (4 * c + (j + 1))) x = 1) → seL M c x k = mM M x := by
  intro k
  induction k with
  | zero => intro _; rfl
  | succ k ih =>
    intro h
    unfold seL
    rw [if_neg (h k (by omega)), ih (fun j hj => h j (by omega))]
theorem seL_skip {M : MS} {c x k : Nat} (h : ¬ bN (mW M (4 * c + (k + 1))) x = 1) : seL M c x (k + 1) = seL M c x k := by
  rw [seL, if_neg h]
theorem seL_hit {M : MS} {c x k : Nat} (h : bN (mW M (4 * c + (k + 1))) x = 1) : seL M c x (k + 1) = mV M (16 * (4 * c + (k + 1)) + x) := by
  rw [seL, if_pos h]
theorem Rel.seN {C : CS} {T : TS} {M : MS} (h : Rel C T M) {c x : Nat} (hc : c < 4) (hw : ¬ wrn T c x) {k : Nat} (hk : k ≤ tL T c) : seL M c x k = mM M x := by
  refine seL_none k (fun j hj q => hw ⟨j, by omega, ?_⟩)
  rw [(h.2.2.2.1 c hc j (by omega)).2.1]
  exact q
/-- a level whose cells and what lies below it are as they were -/
theorem LG.tr {T T' : TS} {M M' : MS} {c k : Nat} (h : LG T M c k) (hz : tZ T (c * 3 + k) ≤ 16) (hc : ∀ j, j < 16 → tC T ((c * 3 + k) * 16 + j) < 16) (eR : tR T' (c * 3 + k) = mR M' (4 * c + (k + 1))) (eW : tW T' (c * 3 + k) = tW T (c * 3 + k)) (eW2 : mW M' (4 * c + (k + 1)) = mW M (4 * c + (k + 1))) (eZ : tZ T' (c * 3 + k) = tZ T (c * 3 + k)) (eC : ∀ j, j < 16 → tC T' ((c * 3 + k) * 16 + j) = tC T ((c * 3 + k) * 16 + j)) (eO : ∀ j, j < 16 → tO T' ((c * 3 + k) * 16 + j) = tO T ((c * 3 + k) * 16 + j)) (hs : ∀ y, y < 16 → bN (tW T (c * 3 + k)) y = 1 → seL M' c y k = seL M c y k) : LG T' M' c k := by
  obtain ⟨_, h2, h3, h4, h5⟩ := h
  refine ⟨eR, by rw [eW, eW2]; exact h2, by rw [eZ, eW]; exact h3, ?_, ?_⟩
  · intro j hj
    rw [eZ] at hj
    rw [eW, eC j (by omega), eO j (by omega)]
    refine ⟨(h4 j hj).1, ?_⟩
    rw [hs _ (hc j (by omega)) (h4 j hj).1]
    exact (h4 j hj).2
  · intro x hx hb
    rw [eW] at hb
    obtain ⟨j, hj, e⟩ := h5 x hx hb
    exact ⟨j, by rw [eZ]; exact hj, by rw [eC j (by omega)]; exact e⟩
theorem WT.z {T : TS} (h : WT T) {c k : Nat} (hc : c < 4) (hk : k < tL T c) : tZ T (c * 3 + k) ≤ 16 := h.2.1 _ (by have := h.1 c hc; omega)
theorem WT.c {T : TS} (h : WT T) {c k : Nat} (hc : c < 4) (hk : k < tL T c) : ∀ j, j < 16 → tC T ((c * 3 + k) * 16 + j) < 16 := fun j hj => h.2.2 _ (by have := h.1 c hc; omega)
/-! sets -/
theorem rsL_eq {f g : Nat → Int32} {b b' : Nat} : ∀ (n k : Nat) (acc : Int32), (∀ j, k ≤ j → j < k + n → f (b + j) = g (b' + (j + 1))) → rsL f b n k acc = rsL g b' n (k + 1) acc := by
  intro n
  induction n with
  | zero => intro k acc _; rfl
  | succ n ih =>
    intro k acc h
    unfold rsL
    rw [h k (by omega) (by omega)]
    exact ih (k + 1) _ (fun j h1 h2 => h j (by omega) (by omega))
theorem rsL_bit {f : Nat → Int32} {b x : Nat} : ∀ (n k : Nat) (acc : Int32), bN (rsL f b n k acc) x = 1 ↔ bN acc x = 1 ∨ ∃ j, k ≤ j ∧ j < k + n ∧ bN (f (b + j)) x = 1 := by
  intro n
  induction n with
  | zero =>
    intro k acc
    refine ⟨fun h => Or.inl h, ?_⟩
    rintro (h | ⟨j, h1, h2, _⟩)
    · exact h
    · omega
  | succ n ih =>
    intro k acc
    unfold rsL
    rw [ih]
    constructor
    · rintro (h | ⟨j, h1, h2, h3⟩)
      · rw [bN_or] at h
        by_cases ha : bN acc x = 1
        · exact Or.inl ha
        · by_cases hb : bN (f (b + k)) x = 1
          · exact Or.inr ⟨k, by omega, by omega, hb⟩
          · rw [if_neg (by omega)] at h
            omega
      · exact Or.inr ⟨j, by omega, by omega, h3⟩
    · rintro (h | ⟨j, h1, h2, h3⟩)
      · left
        rw [bN_or, if_pos (Or.inl h)]
      · by_cases e : j = k
        · left
          rw [bN_or, if_pos (Or.inr (by rw [← e]; exact h3))]
        · exact Or.inr ⟨j, by omega, by omega, h3⟩
theorem bN_0 (x : Nat) : bN (nI 0) x = 0 := by
  unfold bN
  rw [show bt (nI 0) x = false from b_0 x]
  rfl
theorem wset_bit {T : TS} {c x : Nat} : bN (wset T c) x = 1 ↔ wrn T c x := by
  unfold wset
  rw [rsL_bit, bN_0]
  constructor
  · rintro (h | ⟨j, _, h2, h3⟩)
    · omega
    · exact ⟨j, by omega, h3⟩
  · rintro ⟨j, h2, h3⟩
    exact Or.inr ⟨j, by omega, by omega, h3⟩
theorem Rel.ws {C : CS} {T : TS} {M : MS} (h : Rel C T M) {c : Nat} (hc : c < 4) : wset T c = mws M c := by
  unfold wset mws
  rw [h.2.2.1 c hc]
  exact rsL_eq _ 0 _ (fun j _ hj => (h.2.2.2.1 c hc j (by omega)).2.1)
theorem Rel.rs {C : CS} {T : TS} {M : MS} (h : Rel C T M) {c : Nat} (hc : c < 4) : rset T c = mrs M c := by
  unfold rset mrs
  rw [h.2.2.1 c hc]
  exact rsL_eq _ 0 _ (fun j _ hj => (h.2.2.2.1 c hc j (by omega)).1)
theorem or_0 (s : Int32) : s ||| nI 0 = s := by
  apply b_ext
  intro i hi
  rw [b_or, n_bt0 i hi, Bool.or_false]
theorem rv_mo {f g : Nat → Int32} {c x : Nat} : ∀ (n k : Nat) (acc : Int32), (∀ j, k ≤ j → j < k + n → f j = g j) → rvL f c x n k acc = moL g c x n k acc := by
  intro n
  induction n with
  | zero => intro k acc _; rfl
  | succ n ih =>
    intro k acc h
    unfold rvL moL
    have e : rvS f c x k acc = moS g c x k acc := by
      unfold rvS moS
      rw [h k (by omega) (by omega), or_0]
      have := bN_le (g k) x
      by_cases h1 : k = c
      · rw [if_pos h1, if_pos h1]
      · rw [if_neg h1, if_neg h1]
        by_cases h2 : bN (g k) x = 0
        · rw [if_pos h2, if_neg (by omega)]
        · rw [if_neg h2, if_pos (by omega)]
    rw [e]
    exact ih (k + 1) _ (fun j h1 h2 => h j (by omega) (by omega))
theorem Rel.riv0 {C : CS} {T : TS} {M : MS} (h : Rel C T M) (c x : Nat) : rivs T c x 0 = moth M c x 1 := by
  unfold rivs moth
  refine rv_mo 4 0 _ (fun j _ hj => ?_)
  show wset T j = mws M j
  exact h.ws (by omega)
theorem Rel.riv1 {C : CS} {T : TS} {M : MS} (h : Rel C T M) (c x : Nat) : rivs T c x 1 = moth M c x 0 := by
  unfold rivs moth
  refine rv_mo 4 0 _ (fun j _ hj => ?_)
  show wset T j ||| rset T j = mws M j ||| mrs M j
  rw [h.ws (by omega), h.rs (by omega)]
theorem rv_keep {f : Nat → Int32} {c x i : Nat} : ∀ (n k : Nat) (acc : Int32), bN acc i = 1 → bN (rvL f c x n k acc) i = 1 := by
  intro n
  induction n with
  | zero => intro k acc h; exact h
  | succ n ih =>
    intro k acc h
    unfold rvL
    refine ih (k + 1) _ ?_
    unfold rvS
    split
    · rw [or_0]; exact h
    · split
      · rw [or_0]; exact h
      · rw [bN_or, if_pos (Or.inl h)]
theorem rv_set {f : Nat → Int32} {c x i : Nat} (hi : i < 4) (hic : i ≠ c) (hb : ¬ bN (f i) x = 0) : ∀ (n k : Nat) (acc : Int32), k ≤ i → i < k + n → bN (rvL f c x n k acc) i = 1 := by
  intro n
  induction n with
  | zero => intro k acc h1 h2; omega
  | succ n ih =>
    intro k acc h1 h2
    unfold rvL
    by_cases e : i = k
    · refine rv_keep n (k + 1) _ ?_
      unfold rvS
      rw [← e, if_neg hic, if_neg hb, bN_or, if_pos (Or.inr (by rw [bN_b1 i (by omega) i (by omega), if_pos rfl]))]
    · exact ih (k + 1) _ (by omega) (by omega)
theorem riv_no {T : TS} {c x w : Nat} (h : rivs T c x w = 0) {d : Nat} (hd : d < 4) (hdc : d ≠ c) : bN (thr T w d) x = 0 := by
  by_cases q : bN (thr T w d) x = 0
  · exact q
  · have := rv_set hd hdc q 4 0 (nI 0) (by omega) (by omega)
    rw [show rvL (thr T w) c x 4 0 (nI 0) = 0 from h, show (0 : Int32) = nI 0 from rfl, bN_0] at this
    omega
theorem riv_wr {T : TS} {c x : Nat} (h : rivs T c x 1 = 0) : ∀ d, d < 4 → d ≠ c → ¬ wrn T d x := by
  intro d hd hdc hw
  have := riv_no h hd hdc
  rw [show thr T 1 d = wset T d ||| rset T d from rfl, bN_or, if_pos (Or.inl (wset_bit.mpr hw))] at this
  omega
theorem rv_zero {f : Nat → Int32} {c x : Nat} : ∀ (n k : Nat), (∀ d, k ≤ d → d < k + n → d ≠ c → bN (f d) x = 0) → rvL f c x n k (nI 0) = 0 := by
  intro n
  induction n with
  | zero => intro k _; rfl
  | succ n ih =>
    intro k h
    unfold rvL
    have e : rvS f c x k (nI 0) = nI 0 := by
      unfold rvS
      rw [or_0]
      by_cases h1 : k = c
      · rw [if_pos h1]
      · rw [if_neg h1, if_pos (h k (by omega) (by omega) h1)]
    rw [e]
    exact ih (k + 1) (fun d h1 h2 => h d (by omega) (by omega))
theorem riv_10 {T : TS} {c x : Nat} (h : rivs T c x 1 = 0) : rivs T c x 0 = 0 := by
  refine rv_zero 4 0 (fun d _ hd hdc => ?_)
  show bN (wset T d) x = 0
  have := bN_le (wset T d) x
  by_cases q : bN (wset T d) x = 1
  · exact absurd (wset_bit.mp q) (riv_wr h d (by omega) hdc)
  · omega
/-! what is committed, what is seen -/
theorem wrt_none {T : TS} {x : Nat} : ∀ (n k : Nat), wrt T x n k = none → ∀ j, k ≤ j → j < k + n → ¬ wrn T j x := by
  intro n
  induction n with
  | zero => intro k _ j h1 h2; omega
  | succ n ih =>
    intro k h j h1 h2 hw
    unfold wrt at h
    by_cases q : bN (wset T k) x = 0
    · rw [if_pos q] at h
      by_cases e : j = k
      · rw [e] at hw
        have := wset_bit.mpr hw
        omega
      · exact ih (k + 1) h j (by omega) (by omega) hw
    · rw [if_neg q] at h
      cases h
theorem wrt_some {T : TS} {x : Nat} : ∀ (n k j : Nat), wrt T x n k = some j → wrn T j x := by
  intro n
  induction n with
  | zero => intro k j h; cases h
  | succ n ih =>
    intro k j h
    unfold wrt at h
    by_cases q : bN (wset T k) x = 0
    · rw [if_pos q] at h
      exact ih (k + 1) j h
    · rw [if_neg q] at h
      cases h
      have := bN_le (wset T k) x
      exact wset_bit.mp (by omega)
theorem bfK_some {T : TS} {q x : Nat} {v : Int32} : ∀ (n k : Nat), bfK T q x n k = some v → ∃ j, k ≤ j ∧ j < k + n ∧ tC T (q * 16 + j) = x ∧ tO T (q * 16 + j) = v := by
  intro n
  induction n with
  | zero => intro k h; cases h
  | succ n ih =>
    intro k h
    unfold bfK at h
    by_cases e : tC T (q * 16 + k) = x
    · rw [if_pos e] at h
      exact ⟨k, by omega, by omega, e, Option.some.inj h⟩
    · rw [if_neg e] at h
      obtain ⟨j, h1, h2, h3⟩ := ih (k + 1) h
      exact ⟨j, by omega, by omega, h3⟩
theorem bfK_none {T : TS} {q x : Nat} : ∀ (n k : Nat), bfK T q x n k = none → ∀ j, k ≤ j → j < k + n → tC T (q * 16 + j) ≠ x := by
  intro n
  induction n with
  | zero => intro k _ j h1 h2; omega
  | succ n ih =>
    intro k h j h1 h2
    unfold bfK at h
    by_cases e : tC T (q * 16 + k) = x
    · rw [if_pos e] at h
      cases h
    · rw [if_neg e] at h
      by_cases e2 : j = k
      · rw [e2]; exact e
      · exact ih (k + 1) h j (by omega) (by omega)
theorem Rel.bf {C : CS} {T : TS} {M : MS} (h : Rel C T M) {c x : Nat} (hc : c < 4) (hx : x < 16) : ∀ (n k : Nat), k + n = tL T c → (∀ j, j < k → ¬ bN (tW T (c * 3 + j)) x = 1) → (∃ j, k ≤ j ∧ j < tL T c ∧ bN (tW T (c * 3 + j)) x = 1) → bfL C T c x n k = mM M x := by
  intro n
  induction n with
  | zero => rintro k hk _ ⟨j, h1, h2, _⟩; omega
  | succ n ih =>
    intro k hk hlo hex
    unfold bfL
    obtain ⟨_, g2, g3, g4, g5⟩ := h.2.2.2.1 c hc k (by omega)
    cases hb : bfK T (c * 3 + k) x (tZ T (c * 3 + k)) 0 with
    | some v =>
      obtain ⟨j, _, h2, h3, h4⟩ := bfK_some _ _ hb
      have q := (g4 j (by omega)).2
      rw [h3, h4] at q
      show v = _
      rw [q]
      refine seL_none k (fun i hi z => hlo i hi ?_)
      rw [(h.2.2.2.1 c hc i (by omega)).2.1]
      exact z
    | none =>
      show bfL C T c x n (k + 1) = _
      have nb : ¬ bN (tW T (c * 3 + k)) x = 1 := by
        intro z
        obtain ⟨j, h1, h2⟩ := g5 x hx z
        exact bfK_none _ _ hb j (by omega) (by omega) h2
      refine ih (k + 1) (by omega) (fun j hj => ?_) ?_
      · by_cases e : j = k
        · rw [e]; exact nb
        · exact hlo j (by omega)
      · obtain ⟨j, h1, h2, h3⟩ := hex
        refine ⟨j, ?_, h2, h3⟩
        by_cases e : j = k
        · rw [e] at h3
          exact absurd h3 nb
        · omega
theorem Rel.cm {C : CS} {T : TS} {M : MS} (h : Rel C T M) {x : Nat} (hx : x < 16) : cmt C T x = mM M x := by
  unfold cmt
  cases hw : wrt T x 4 0 with
  | none =>
    have hn := wrt_none 4 0 hw
    show nwst C x = _
    rw [h.2.2.2.2.2 0 (by omega) x hx (fun c' hc' _ => hn c' (by omega) (by omega))]
    exact h.seN (by omega) (hn 0 (by omega) (by omega)) (Nat.le_refl _)
  | some c =>
    have hc : c < 4 := by
      have := wrt_lt 4 0 c hw
      omega
    obtain ⟨k, hk, hb⟩ := wrt_some 4 0 c hw
    exact h.bf hc hx (tL T c) 0 (Nat.zero_add _) (fun j hj => absurd hj (Nat.not_lt_zero j)) ⟨k, by omega, hk, hb⟩
theorem woI_eq {o : Option Nat} {c : Nat} (hc : c < 4) (ho : ∀ j, o = some j → j < 4) : woI o = nI c ↔ o = some c := by
  cases o with
  | none =>
    refine ⟨fun h => ?_, fun h => by cases h⟩
    exact absurd (show (-1 : Int32) = nI c from h) ((by decide : ∀ c, c < 4 → ¬ (-1 : Int32) = nI c) c hc)
  | some j =>
    have := ho j rfl
    show nI j = nI c ↔ _
    rw [nI_eq (by omega) (by omega)]
    exact ⟨fun h => by rw [h], fun h => Option.some.inj h⟩
theorem Rel.see {C : CS} {T : TS} {M : MS} (h : Rel C T M) {c x : Nat} (hc : c < 4) (hx : x < 16) : seeX C T c x = seL M c x (mL M c) := by
  unfold seeX
  rw [h.2.2.1 c hc]
  have hlt : ∀ j, wrt T x 4 0 = some j → j < 4 := fun j q => by
    have := wrt_lt 4 0 j q
    omega
  by_cases e : woI (wrt T x 4 0) = nI c
  · rw [if_pos e]
    have hw := wrt_some 4 0 c ((woI_eq hc hlt).mp e)
    exact h.2.2.2.2.2 c hc x hx (fun c' hc' hne => h.2.2.2.2.1 c hc c' hc' (Ne.symm hne) x hx hw)
  · rw [if_neg e, h.cm hx]
    refine (h.seN hc (fun hw => ?_) (Nat.le_refl _)).symm
    cases hq : wrt T x 4 0 with
    | none => exact wrt_none 4 0 hq c (by omega) (by omega) hw
    | some j =>
      have hj := hlt j hq
      by_cases ej : j = c
      · rw [hq, ej] at e
        exact e rfl
      · exact h.2.2.2.2.1 j hj c hc ej x hx (wrt_some 4 0 j hq) hw
theorem dg_eq {f g : Nat → Int32} : ∀ (n k : Nat) (acc : Int32), (∀ j, k ≤ j → j < k + n → f j = g j) → dgL f n k acc = dgL g n k acc := by
  intro n
  induction n with
  | zero => intro k acc _; rfl
  | succ n ih =>
    intro k acc h
    unfold dgL
    rw [h k (by omega) (by omega)]
    exact ih (k + 1) _ (fun j h1 h2 => h j (by omega) (by omega))
theorem Rel.dg {C : CS} {T : TS} {M : MS} (h : Rel C T M) : dgL (cmt C T) 16 0 (nI 0) = dgL (mM M) 16 0 (nI 0) := dg_eq 16 0 _ (fun j _ hj => h.cm (by omega))
end
section
/-! each step keeps the relation -/
theorem b_hi1 (s : Int32) {x : Nat} (hx : x < 32) (h : bN s x = 1) : s ||| b1 x = s := by
  apply b_ext
  intro i hi
  have e := bN_or1 s hx hi
  unfold bN at e h
  by_cases q : i = x
  · rw [if_pos q] at e
    subst q
    cases h1 : bt (s ||| b1 i) i <;> cases h2 : bt s i <;> simp_all
  · rw [if_neg q] at e
    cases h1 : bt (s ||| b1 x) i <;> cases h2 : bt s i <;> simp_all
theorem bN_ext {s t : Int32} (h : ∀ i, i < 32 → (bN s i = 1 ↔ bN t i = 1)) : s = t := by
  apply b_ext
  intro i hi
  have q := h i hi
  unfold bN at q
  cases h1 : bt s i <;> cases h2 : bt t i <;> simp_all
/-- begin -/
theorem Rel.bg {C : CS} {T : TS} {M : MS} (h : Rel C T M) {c : Nat} (hc : c < 4) : bgR T c = mbgR M c ∧ Rel C (bgT T c) (mbgM M c) := by
  have hL := h.2.2.1 c hc
  have hl3 := h.2.1.1 c hc
  by_cases h3 : tL T c < 3
  · have e3 : ¬ mL M c = 3 := by omega
    unfold bgR mbgR bgT mbgM
    rw [if_pos h3, if_neg e3, if_pos h3, if_neg e3]
    refine ⟨by rw [hL], ?_⟩
    rw [hL]
    obtain ⟨hC, hT, hl, hg, hd, hn⟩ := h
    generalize hT' : ((upN (tL T) c (tL T c + 1), upd (tR T) (c * 3 + tL T c) (nI 0), upd (tW T) (c * 3 + tL T c) (nI 0), upN (tZ T) (c * 3 + tL T c) 0, T.2.2.2.2) : TS) = T'
    generalize hM' : ((M.1, upN (mL M) c (tL T c + 1), upd (mR M) (4 * c + (tL T c + 1)) (nI 0), upd (mW M) (4 * c + (tL T c + 1)) (nI 0), M.2.2.2.2) : MS) = M'
    have tLs : tL T' c = tL T c + 1 := by rw [← hT']; exact upN_s
    have tLn : ∀ i, i ≠ c → tL T' i = tL T i := fun i hi => by rw [← hT']; exact upN_n hi
    have tRs : tR T' (c * 3 + tL T c) = nI 0 := by rw [← hT']; exact pk_us
    have tRn : ∀ i, i ≠ c * 3 + tL T c → tR T' i = tR T i := fun i hi => by rw [← hT']; exact pk_un hi
    have tWs : tW T' (c * 3 + tL T c) = nI 0 := by rw [← hT']; exact pk_us
    have tWn : ∀ i, i ≠ c * 3 + tL T c → tW T' i = tW T i := fun i hi => by rw [← hT']; exact pk_un hi
    have tZs : tZ T' (c * 3 + tL T c) = 0 := by rw [← hT']; exact upN_s
    have tZn : ∀ i, i ≠ c * 3 + tL T c → tZ T' i = tZ T i := fun i hi => by rw [← hT']; exact upN_n hi
    have tCe : tC T' = tC T := by rw [← hT']
    have tOe : tO T' = tO T := by rw [← hT']
    have mLs : mL M' c = tL T c + 1 := by rw [← hM']; exact upN_s
    have mLn : ∀ i, i ≠ c → mL M' i = mL M i := fun i hi => by rw [← hM']; exact upN_n hi
    have mRs : mR M' (4 * c + (tL T c + 1)) = nI 0 := by rw [← hM']; exact pk_us
    have mRn : ∀ i, i ≠ 4 * c + (tL T c + 1) → mR M' i = mR M i := fun i hi => by rw [← hM']; exact pk_un hi
    have mWs : mW M' (4 * c + (tL T c + 1)) = nI 0 := by rw [← hM']; exact pk_us
    have mWn : ∀ i, i ≠ 4 * c + (tL T c + 1) → mW M' i = mW M i := fun i hi => by rw [← hM']; exact pk_un hi
    have mMe : mM M' = mM M := by rw [← hM']
    have mVe : mV M' = mV M := by rw [← hM']
    have hW' : WT T' := by rw [← hT']; exact ⟨up_le hT.1 (by omega), up_le hT.2.1 (by omega), hT.2.2⟩
    clear hT' hM'
    have old : ∀ c', c' < 4 → ∀ k, k < tL T' c' → (c' = c ∧ k = tL T c) ∨ (k < tL T c' ∧ c' * 3 + k ≠ c * 3 + tL T c ∧ 4 * c' + (k + 1) ≠ 4 * c + (tL T c + 1)) := by
      intro c' hc' k hk
      have := hT.1 c' hc'
      by_cases e : c' = c
      · subst e
        rw [tLs] at hk
        omega
      · rw [tLn c' e] at hk
        omega
    have up : ∀ c', c' < 4 → ∀ k, k < tL T c' → c' * 3 + k ≠ c * 3 + tL T c ∧ k < tL T' c' := by
      intro c' hc' k hk
      have := hT.1 c' hc'
      by_cases e : c' = c
      · subst e
        rw [tLs]
        omega
      · rw [tLn c' e]
        omega
    have wr' : ∀ c', c' < 4 → ∀ x, (wrn T' c' x ↔ wrn T c' x) := by
      intro c' hc' x
      constructor
      · rintro ⟨k, hk, hb⟩
        rcases old c' hc' k hk with ⟨rfl, rfl⟩ | ⟨q1, q2, _⟩
        · rw [tWs, bN_0] at hb
          omega
        · rw [tWn _ q2] at hb
          exact ⟨k, q1, hb⟩
      · rintro ⟨k, hk, hb⟩
        obtain ⟨q1, q2⟩ := up c' hc' k hk
        exact ⟨k, q2, by rw [tWn _ q1]; exact hb⟩
    have se' : ∀ c', c' < 4 → ∀ x, ∀ k, k ≤ tL T c' → seL M' c' x k = seL M c' x k := by
      intro c' hc' x k hk
      have := hT.1 c' hc'
      refine seL_congr k (by rw [mMe]) (fun j hj => ?_)
      rw [mVe]
      refine ⟨?_, rfl⟩
      rw [mWn _ (by by_cases e : c' = c; subst e; omega; omega)]
    refine ⟨hC, hW', ?_, ?_, ?_, ?_⟩
    · intro c' hc'
      by_cases e : c' = c
      · rw [e, mLs, tLs]
      · rw [mLn c' e, tLn c' e]
        exact hl c' hc'
    · intro c' hc' k hk
      rcases old c' hc' k hk with ⟨rfl, rfl⟩ | ⟨q1, q2, q3⟩
      · refine ⟨by rw [tRs, mRs], by rw [tWs, mWs], by rw [tZs, tWs, cnt_0], fun j hj => ?_, fun x hx hb => ?_⟩
        · rw [tZs] at hj
          omega
        · rw [tWs, bN_0] at hb
          omega
      · have g := hg c' hc' k q1
        exact g.tr (hT.z hc' q1) (hT.c hc' q1) (by rw [tRn _ q2, mRn _ q3]; exact g.1) (tWn _ q2) (mWn _ q3) (tZn _ q2) (fun j _ => by rw [tCe]) (fun j _ => by rw [tOe]) (fun y _ _ => se' c' hc' y k (by omega))
    · intro c1 h1 c2 h2 hne x hx
      rw [wr' c1 h1, wr' c2 h2]
      exact hd c1 h1 c2 h2 hne x hx
    · intro c1 h1 x hx ho
      rw [hn c1 h1 x hx (fun c' hc' hne => by rw [← wr' c' hc']; exact ho c' hc' hne)]
      by_cases e : c1 = c
      · rw [e, tLs, seL_skip (by rw [mWs, bN_0]; omega)]
        exact (se' c hc x _ (Nat.le_refl _)).symm
      · rw [tLn c1 e]
        exact (se' c1 h1 x _ (Nat.le_refl _)).symm
  · have e3 : mL M c = 3 := by omega
    unfold bgR mbgR bgT mbgM
    rw [if_neg h3, if_pos e3, if_neg h3, if_pos e3]
    exact ⟨rfl, h⟩
/-- a relation by another picture of the caches with the same newest values -/
theorem Rel.pres {C C' : CS} {T : TS} {M : MS} (h : Rel C T M) (p : Pres C C') : Rel C' T M := ⟨p.1, h.2.1, h.2.2.1, h.2.2.2.1, h.2.2.2.2.1, fun c hc x hx ho => by rw [p.nw h.1 hx]; exact h.2.2.2.2.2 c hc x hx ho⟩
/-- noteRead -/
theorem Rel.nt {C : CS} {T : TS} {M : MS} (h : Rel C T M) {c x : Nat} (hc : c < 4) : Rel C (ntR T c x) (mrdA M c x) := by
  obtain ⟨hC, hT, hl, hg, hd, hn⟩ := h
  have hL := hl c hc
  have hl3 := hT.1 c hc
  have eL : tL (ntR T c x) = tL T := by unfold ntR; split <;> rfl
  have eW : tW (ntR T c x) = tW T := by unfold ntR; split <;> rfl
  have eZ : tZ (ntR T c x) = tZ T := by unfold ntR; split <;> rfl
  have eC : tC (ntR T c x) = tC T := by unfold ntR; split <;> rfl
  have eO : tO (ntR T c x) = tO T := by unfold ntR; split <;> rfl
  have hR : ∀ c', c' < 4 → ∀ k, k < tL T c' → tR (ntR T c x) (c' * 3 + k) = mR (mrdA M c x) (4 * c' + (k + 1)) := by
    intro c' hc' k hk
    have g := (hg c' hc' k hk).1
    have hk3 := hT.1 c' hc'
    show _ = upd (mR M) (4 * c + mL M c) (if mL M c = 0 then mR M (4 * c + mL M c) else mR M (4 * c + mL M c) ||| b1 x) (4 * c' + (k + 1))
    rw [hL]
    by_cases h0 : tL T c = 0
    · rw [if_pos h0]
      have e1 : tR (ntR T c x) = tR T := by unfold ntR; rw [if_pos h0]
      rw [e1, pk_un (by by_cases e : c' = c; subst e; omega; omega)]
      exact g
    · rw [if_neg h0]
      have e1 : tR (ntR T c x) = upd (tR T) (c * 3 + tL T c - 1) (tR T (c * 3 + tL T c - 1) ||| b1 x) := by unfold ntR; rw [if_neg h0]
      rw [e1]
      by_cases e : c' = c ∧ k + 1 = tL T c
      · obtain ⟨rfl, e2⟩ := e
        have i1 : c' * 3 + tL T c' - 1 = c' * 3 + k := by omega
        have i2 : 4 * c' + tL T c' = 4 * c' + (k + 1) := by omega
        rw [i1, i2, pk_us, pk_us, g]
      · rw [pk_un (by omega), pk_un (by omega)]
        exact g
  have wr' : ∀ c' y, (wrn (ntR T c x) c' y ↔ wrn T c' y) := by
    intro c' y
    unfold wrn
    rw [eL, eW]
  have se' : ∀ c' y k, seL (mrdA M c x) c' y k = seL M c' y k := fun c' y k => seL_congr k rfl (fun j _ => ⟨rfl, rfl⟩)
  refine ⟨hC, WT_ntR hT c x, ?_, ?_, ?_, ?_⟩
  · intro c' hc'
    rw [eL]
    exact hl c' hc'
  · intro c' hc' k hk
    rw [eL] at hk
    exact (hg c' hc' k hk).tr (hT.z hc' hk) (hT.c hc' hk) (hR c' hc' k hk) (by rw [eW]) rfl (by rw [eZ]) (fun j _ => by rw [eC]) (fun j _ => by rw [eO]) (fun y _ _ => se' c' y k)
  · intro c1 h1 c2 h2 hne y hy
    rw [wr', wr']
    exact hd c1 h1 c2 h2 hne y hy
  · intro c1 h1 y hy ho
    rw [se', eL]
    exact hn c1 h1 y hy (fun c' hc' hne => by rw [← wr']; exact ho c' hc' hne)
theorem Rel.rd {C : CS} {T : TS} {M : MS} (h : Rel C T M) {c x : Nat} (hc : c < 4) (hx : x < 16) : Rel (ftch C c x) (ntR T c x) (mrdA M c x) := (h.nt hc).pres (ftch_ok h.1 hc hx).1
theorem Rel.room {C : CS} {T : TS} {M : MS} (h : Rel C T M) {c x : Nat} (hc : c < 4) (hx : x < 16) : tL T c ≠ 0 → bN (tW T (c * 3 + tL T c - 1)) x = 0 → tZ T (c * 3 + tL T c - 1) < 16 := by
  intro h0 hb
  have i1 : c * 3 + tL T c - 1 = c * 3 + (tL T c - 1) := by omega
  rw [i1] at hb ⊢
  rw [(h.2.2.2.1 c hc (tL T c - 1) (by omega)).2.2.1]
  exact cnt_lt hx hb
/-- write -/
theorem Rel.put {C : CS} {T : TS} {M : MS} (h : Rel C T M) {c x : Nat} (v : Int32) (hc : c < 4) (hx : x < 16) (hno : ∀ d, d < 4 → d ≠ c → ¬ wrn T d x) : Rel (stor C c x v) (chT C T c x) (mput M c x v) := by
  have hroom := h.room hc hx
  have hsee := h.2.2.2.2.2 c hc x hx hno
  have hseN := fun {c' y : Nat} (hc' : c' < 4) (hw : ¬ wrn T c' y) => h.seN hc' hw (Nat.le_refl _)
  obtain ⟨hC, hT, hl, hg, hd, hn⟩ := h
  have hL := hl c hc
  have hl3 := hT.1 c hc
  obtain ⟨sC, sx, sn⟩ := stor_ok hC v hc hx
  by_cases h0 : tL T c = 0
  · have eT : chT C T c x = T := by unfold chT; rw [if_pos h0]
    have eM : mput M c x v = (upd (mM M) x v, M.2) := by unfold mput; rw [if_pos (by omega)]
    rw [eT, eM]
    have nobody : ∀ c', c' < 4 → ¬ wrn T c' x := by
      intro c' hc'
      by_cases e : c' = c
      · rintro ⟨k, hk, _⟩
        rw [e] at hk
        omega
      · exact hno c' hc' e
    have se' : ∀ c' y k, y ≠ x → seL (upd (mM M) x v, M.2) c' y k = seL M c' y k := fun c' y k hy => seL_congr k (pk_un hy) (fun j _ => ⟨rfl, rfl⟩)
    refine ⟨sC, hT, hl, ?_, hd, ?_⟩
    · intro c' hc' k hk
      refine (hg c' hc' k hk).tr (hT.z hc' hk) (hT.c hc' hk) (hg c' hc' k hk).1 rfl rfl rfl (fun j _ => rfl) (fun j _ => rfl) (fun y _ hb => se' c' y k ?_)
      intro e
      rw [e] at hb
      exact nobody c' hc' ⟨k, hk, hb⟩
    · intro c1 h1 y hy ho
      by_cases e : y = x
      · subst e
        rw [sx]
        refine Eq.symm ?_
        refine (seL_none _ (fun j hj q => nobody c1 h1 ⟨j, hj, ?_⟩)).trans pk_us
        rw [(hg c1 h1 j hj).2.1]
        exact q
      · rw [sn y hy e, se' c1 y _ e]
        exact hn c1 h1 y hy ho
  · obtain ⟨k0, hk0⟩ : ∃ k0, tL T c = k0 + 1 := ⟨tL T c - 1, by omega⟩
    have i1 : c * 3 + tL T c - 1 = c * 3 + k0 := by omega
    have i2 : 4 * c + mL M c = 4 * c + (k0 + 1) := by omega
    have eM : mput M c x v = (M.1, M.2.1, M.2.2.1, upd (mW M) (4 * c + (k0 + 1)) (mW M (4 * c + (k0 + 1)) ||| b1 x), upd (mV M) (16 * (4 * c + (k0 + 1)) + x) v) := by unfold mput; rw [if_neg (by omega), i2]
    rw [eM]
    generalize hM' : ((M.1, M.2.1, M.2.2.1, upd (mW M) (4 * c + (k0 + 1)) (mW M (4 * c + (k0 + 1)) ||| b1 x), upd (mV M) (16 * (4 * c + (k0 + 1)) + x) v) : MS) = M'
    have mMe : mM M' = mM M := by rw [← hM']
    have mLe : mL M' = mL M := by rw [← hM']
    have mRe : mR M' = mR M := by rw [← hM']
    have mWs : mW M' (4 * c + (k0 + 1)) = mW M (4 * c + (k0 + 1)) ||| b1 x := by rw [← hM']; exact pk_us
    have mWn : ∀ i, i ≠ 4 * c + (k0 + 1) → mW M' i = mW M i := fun i hi => by rw [← hM']; exact pk_un hi
    have mVs : mV M' (16 * (4 * c + (k0 + 1)) + x) = v := by rw [← hM']; exact pk_us
    have mVn : ∀ i, i ≠ 16 * (4 * c + (k0 + 1)) + x → mV M' i = mV M i := fun i hi => by rw [← hM']; exact pk_un hi
    clear hM' eM
    have lowse : ∀ c', c' < 4 → ∀ y, y < 16 → ∀ k, k ≤ tL T c' → (c' = c → k ≤ k0) → seL M' c' y k = seL M c' y k := by
      intro c' hc' y hy k hk hkc
      have := hT.1 c' hc'
      refine seL_congr k (by rw [mMe]) (fun j hj => ?_)
      have ne : 4 * c' + (j + 1) ≠ 4 * c + (k0 + 1) := by
        by_cases e : c' = c
        · have := hkc e
          omega
        · omega
      rw [mWn _ ne, mVn _ (by omega)]
      exact ⟨rfl, rfl⟩
    have allse : ∀ c', c' < 4 → ∀ y, y < 16 → y ≠ x → ∀ k, k ≤ tL T c' → seL M' c' y k = seL M c' y k := by
      intro c' hc' y hy hyx k hk
      have := hT.1 c' hc'
      refine seL_congr k (by rw [mMe]) (fun j hj => ?_)
      by_cases ne : 4 * c' + (j + 1) = 4 * c + (k0 + 1)
      · rw [ne, mWs, bN_or1 _ (by omega) (by omega), if_neg hyx, mVn _ (by omega)]
        exact ⟨rfl, rfl⟩
      · rw [mWn _ ne, mVn _ (by omega)]
        exact ⟨rfl, rfl⟩
    have top : seL M' c x (k0 + 1) = v := by
      rw [seL_hit (by rw [mWs, bN_or1 _ (by omega) (by omega), if_pos rfl]), mVs]
    have g0 := hg c hc k0 (by omega)
    have hz0 := hT.z hc (show k0 < tL T c by omega)
    have fin : ∀ T' : TS, WT T' → tL T' = tL T → tR T' = tR T → (∀ i, i ≠ c * 3 + k0 → tW T' i = tW T i) → tW T' (c * 3 + k0) = tW T (c * 3 + k0) ||| b1 x → (∀ c', c' < 4 → ∀ k, k < tL T c' → c' * 3 + k ≠ c * 3 + k0 → tZ T' (c' * 3 + k) = tZ T (c' * 3 + k) ∧ (∀ j, j < 16 → tC T' ((c' * 3 + k) * 16 + j) = tC T ((c' * 3 + k) * 16 + j)) ∧ ∀ j, j < 16 → tO T' ((c' * 3 + k) * 16 + j) = tO T ((c' * 3 + k) * 16 + j)) → LG T' M' c k0 → Rel (stor C c x v) T' M' := by
      intro T' hW' eL eR eWn eWs eo gl
      have wr1 : ∀ c', c' < 4 → ∀ y, y < 16 → wrn T c' y → wrn T' c' y := by
        rintro c' hc' y hy ⟨k, hk, hb⟩
        refine ⟨k, by rw [eL]; exact hk, ?_⟩
        by_cases e : c' * 3 + k = c * 3 + k0
        · rw [e, eWs, bN_or1 _ (by omega) (by omega)]
          rw [e] at hb
          split
          · rfl
          · exact hb
        · rw [eWn _ e]
          exact hb
      have wr2 : ∀ c', c' < 4 → ∀ y, y < 16 → wrn T' c' y → wrn T c' y ∨ (c' = c ∧ y = x) := by
        rintro c' hc' y hy ⟨k, hk, hb⟩
        rw [eL] at hk
        have := hT.1 c' hc'
        by_cases e : c' * 3 + k = c * 3 + k0
        · rw [e, eWs, bN_or1 _ (by omega) (by omega)] at hb
          by_cases q : y = x
          · exact Or.inr ⟨by omega, q⟩
          · rw [if_neg q, ← e] at hb
            exact Or.inl ⟨k, hk, hb⟩
        · rw [eWn _ e] at hb
          exact Or.inl ⟨k, hk, hb⟩
      have wrc : wrn T' c x := ⟨k0, by rw [eL]; omega, by rw [eWs, bN_or1 _ (by omega) (by omega), if_pos rfl]⟩
      refine ⟨sC, hW', ?_, ?_, ?_, ?_⟩
      · intro c' hc'
        rw [mLe, eL]
        exact hl c' hc'
      · intro c' hc' k hk
        rw [eL] at hk
        have := hT.1 c' hc'
        by_cases e : c' * 3 + k = c * 3 + k0
        · obtain rfl : c' = c := by omega
          obtain rfl : k = k0 := by omega
          exact gl
        · obtain ⟨o1, o2, o3⟩ := eo c' hc' k hk e
          exact (hg c' hc' k hk).tr (hT.z hc' hk) (hT.c hc' hk) (by rw [eR, mRe]; exact (hg c' hc' k hk).1) (eWn _ e) (mWn _ (by omega)) o1 o2 o3 (fun y hy _ => lowse c' hc' y hy k (by omega) (fun q => by subst q; omega))
      · intro c1 h1 c2 h2 hne y hy w1 w2
        rcases wr2 c1 h1 y hy w1 with w1 | ⟨rfl, rfl⟩
        · rcases wr2 c2 h2 y hy w2 with w2 | ⟨rfl, rfl⟩
          · exact hd c1 h1 c2 h2 hne y hy w1 w2
          · exact hno c1 h1 hne w1
        · rcases wr2 c2 h2 y hy w2 with w2 | ⟨q, _⟩
          · exact hno c2 h2 (Ne.symm hne) w2
          · exact hne q.symm
      · intro c1 h1 y hy ho
        rw [eL]
        by_cases e : y = x
        · subst e
          by_cases ec : c1 = c
          · rw [ec, sx, hk0, top]
          · exact absurd wrc (ho c hc (Ne.symm ec))
        · rw [sn y hy e, allse c1 h1 y hy e _ (Nat.le_refl _)]
          exact hn c1 h1 y hy (fun c' hc' hne q => ho c' hc' hne (wr1 c' hc' y hy q))
    obtain ⟨g1, g2, g3, g4, g5⟩ := g0
    by_cases hb : bN (tW T (c * 3 + k0)) x = 0
    · have eT : chT C T c x = lgT T (c * 3 + k0) x (nwst C x) := by unfold chT; rw [if_neg h0, i1, if_pos hb]
      rw [eT]
      rw [i1] at hroom
      have hz := hroom h0 hb
      have lW : tW (lgT T (c * 3 + k0) x (nwst C x)) (c * 3 + k0) = tW T (c * 3 + k0) ||| b1 x := pk_us
      have lR : tR (lgT T (c * 3 + k0) x (nwst C x)) = tR T := rfl
      have lZ : tZ (lgT T (c * 3 + k0) x (nwst C x)) (c * 3 + k0) = tZ T (c * 3 + k0) + 1 := upN_s
      have lCs : tC (lgT T (c * 3 + k0) x (nwst C x)) ((c * 3 + k0) * 16 + tZ T (c * 3 + k0)) = x := upN_s
      have lCn : ∀ i, i ≠ (c * 3 + k0) * 16 + tZ T (c * 3 + k0) → tC (lgT T (c * 3 + k0) x (nwst C x)) i = tC T i := fun i hi => upN_n hi
      have lOs : tO (lgT T (c * 3 + k0) x (nwst C x)) ((c * 3 + k0) * 16 + tZ T (c * 3 + k0)) = nwst C x := pk_us
      have lOn : ∀ i, i ≠ (c * 3 + k0) * 16 + tZ T (c * 3 + k0) → tO (lgT T (c * 3 + k0) x (nwst C x)) i = tO T i := fun i hi => pk_un hi
      refine fin _ (WT_lgT hT hz hx _) rfl rfl (fun i hi => pk_un hi) lW ?_ ?_
      · intro c' hc' k hk hne
        have := hT.1 c' hc'
        exact ⟨upN_n hne, fun j hj => lCn _ (by omega), fun j hj => lOn _ (by omega)⟩
      · have lowx := lowse c hc x hx k0 (by omega) (fun _ => Nat.le_refl _)
        generalize lgT T (c * 3 + k0) x (nwst C x) = T' at *
        refine ⟨?_, ?_, ?_, ?_, ?_⟩
        · rw [lR, mRe]
          exact g1
        · rw [lW, mWs, g2]
        · rw [lZ, lW, cnt_add hx hb, g3]
        · intro j hj
          rw [lZ] at hj
          rw [lW]
          by_cases e : j = tZ T (c * 3 + k0)
          · rw [e, lCs, lOs, bN_or1 _ (by omega) (by omega), if_pos rfl, lowx, hsee, hk0, seL_skip (by rw [← g2]; omega)]
            exact ⟨rfl, rfl⟩
          · have hj2 : j < tZ T (c * 3 + k0) := by omega
            rw [lCn _ (by omega), lOn _ (by omega)]
            have hc16 := hT.c hc (show k0 < tL T c by omega) j (by omega)
            refine ⟨?_, ?_⟩
            · rw [bN_or1 _ (by omega) (by omega)]
              split
              · rfl
              · exact (g4 j hj2).1
            · rw [(g4 j hj2).2]
              exact (lowse c hc _ hc16 k0 (by omega) (fun _ => Nat.le_refl _)).symm
        · intro y hy hby
          rw [lW, bN_or1 _ (by omega) (by omega)] at hby
          by_cases e : y = x
          · exact ⟨tZ T (c * 3 + k0), by omega, by rw [lCs, e]⟩
          · rw [if_neg e] at hby
            obtain ⟨j, hj, q⟩ := g5 y hy hby
            exact ⟨j, by omega, by rw [lCn _ (by omega)]; exact q⟩
    · have hb1 : bN (tW T (c * 3 + k0)) x = 1 := by
        have := bN_le (tW T (c * 3 + k0)) x
        omega
      have eT : chT C T c x = T := by unfold chT; rw [if_neg h0, i1, if_neg hb]
      rw [eT]
      refine fin T hT rfl rfl (fun i _ => rfl) (b_hi1 _ (by omega) hb1).symm (fun c' _ k _ _ => ⟨rfl, fun j _ => rfl, fun j _ => rfl⟩) ?_
      refine ⟨by rw [mRe]; exact g1, by rw [mWs, ← g2, b_hi1 _ (by omega) hb1], g3, fun j hj => ⟨(g4 j hj).1, ?_⟩, g5⟩
      rw [(g4 j hj).2]
      exact (lowse c hc _ (hT.c hc (show k0 < tL T c by omega) j (by omega)) k0 (by omega) (fun _ => Nat.le_refl _)).symm
end
section
/-! undo -/
theorem udL_ok {T : TS} (hT : WT T) {c q : Nat} (hc : c < 4) (hq : q < 12) (g : Nat → Int32) (hg : ∀ k, k < tZ T q → tO T (q * 16 + k) = g (tC T (q * 16 + k))) : ∀ (n : Nat) (C : CS), n ≤ tZ T q → CI C → CI (udL T c q n C) ∧ ∀ y, y < 16 → ((∃ k, k < n ∧ tC T (q * 16 + k) = y) → nwst (udL T c q n C) y = g y) ∧ ((∀ k, k < n → tC T (q * 16 + k) ≠ y) → nwst (udL T c q n C) y = nwst C y) := by
  have hz := hT.2.1 q hq
  intro n
  induction n with
  | zero =>
    intro C _ h
    exact ⟨h, fun y _ => ⟨fun ⟨k, hk, _⟩ => absurd hk (Nat.not_lt_zero k), fun _ => rfl⟩⟩
  | succ n ih =>
    intro C hn h
    have hx : tC T (q * 16 + n) < 16 := hT.2.2 _ (by omega)
    obtain ⟨s1, s2, s3⟩ := stor_ok h (tO T (q * 16 + n)) hc hx
    obtain ⟨a1, a2⟩ := ih (stor C c (tC T (q * 16 + n)) (tO T (q * 16 + n))) (by omega) s1
    refine ⟨a1, fun y hy => ?_⟩
    obtain ⟨b1, b2⟩ := a2 y hy
    show (_ → nwst (udL T c q n (stor C c (tC T (q * 16 + n)) (tO T (q * 16 + n)))) y = g y) ∧ (_ → nwst (udL T c q n (stor C c (tC T (q * 16 + n)) (tO T (q * 16 + n)))) y = nwst C y)
    constructor
    · rintro ⟨k, hk, e⟩
      by_cases ex : ∃ k, k < n ∧ tC T (q * 16 + k) = y
      · exact b1 ex
      · have kn : k = n := by
          by_cases z : k < n
          · exact absurd ⟨k, z, e⟩ ex
          · omega
        rw [b2 (fun i hi z => ex ⟨i, hi, z⟩)]
        rw [kn] at e
        rw [← e, s2]
        exact hg n (by omega)
    · intro ho
      rw [b2 (fun k hk => ho k (by omega)), s3 y hy (fun e => ho n (by omega) e.symm)]
theorem Rel.ud {C : CS} {T : TS} {M : MS} (h : Rel C T M) {c : Nat} (hc : c < 4) (h0 : tL T c ≠ 0) : Rel (udC C T c) (udT T c) (menD M c) := by
  have hseN := fun {c' y : Nat} (hc' : c' < 4) (hw : ¬ wrn T c' y) => h.seN hc' hw (Nat.le_refl _)
  obtain ⟨hC, hT, hl, hg, hd, hn⟩ := h
  have hL := hl c hc
  have hl3 := hT.1 c hc
  obtain ⟨k0, hk0⟩ : ∃ k0, tL T c = k0 + 1 := ⟨tL T c - 1, by omega⟩
  obtain ⟨g1, g2, g3, g4, g5⟩ := hg c hc k0 (by omega)
  have eC : udC C T c = udL T c (c * 3 + k0) (tZ T (c * 3 + k0)) C := by
    unfold udC
    rw [show c * 3 + tL T c - 1 = c * 3 + k0 by omega]
  obtain ⟨u1, u2⟩ := udL_ok hT hc (show c * 3 + k0 < 12 by omega) (fun y => seL M c y k0) (fun k hk => (g4 k hk).2) (tZ T (c * 3 + k0)) C (Nat.le_refl _) hC
  rw [eC]
  generalize udL T c (c * 3 + k0) (tZ T (c * 3 + k0)) C = C' at u1 u2 ⊢
  have eLs : tL (udT T c) c = k0 := by
    show upN (tL T) c (tL T c - 1) c = k0
    rw [upN_s]
    omega
  have eLn : ∀ i, i ≠ c → tL (udT T c) i = tL T i := fun i hi => upN_n hi
  have mLs : mL (menD M c) c = k0 := by
    show upN (mL M) c (mL M c - 1) c = k0
    rw [upN_s]
    omega
  have mLn : ∀ i, i ≠ c → mL (menD M c) i = mL M i := fun i hi => upN_n hi
  have lt' : ∀ i k, k < tL (udT T c) i → k < tL T i := by
    intro i k hk
    by_cases e : i = c
    · rw [e, eLs] at hk
      rw [e]
      omega
    · rw [eLn i e] at hk
      exact hk
  have wr1 : ∀ i y, wrn (udT T c) i y → wrn T i y := fun i y ⟨k, hk, hb⟩ => ⟨k, lt' i k hk, hb⟩
  have wr2 : ∀ i y, ¬ bN (tW T (c * 3 + k0)) y = 1 → wrn T i y → wrn (udT T c) i y := by
    rintro i y nb ⟨k, hk, hb⟩
    refine ⟨k, ?_, hb⟩
    by_cases e : i = c
    · rw [e, eLs]
      rw [e] at hk hb
      by_cases e2 : k = k0
      · rw [e2] at hb
        exact absurd hb nb
      · omega
    · rw [eLn i e]
      exact hk
  have se' : ∀ i y k, seL (menD M c) i y k = seL M i y k := fun i y k => seL_congr k rfl (fun j _ => ⟨rfl, rfl⟩)
  refine ⟨u1, WT_udT hT c hc, ?_, ?_, ?_, ?_⟩
  · intro i hi
    by_cases e : i = c
    · rw [e, mLs, eLs]
    · rw [mLn i e, eLn i e]
      exact hl i hi
  · intro i hi k hk
    have hk' := lt' i k hk
    exact (hg i hi k hk').tr (hT.z hi hk') (hT.c hi hk') (hg i hi k hk').1 rfl rfl rfl (fun j _ => rfl) (fun j _ => rfl) (fun y _ _ => se' i y k)
  · intro c1 h1 c2 h2 hne y hy w1 w2
    exact hd c1 h1 c2 h2 hne y hy (wr1 c1 y w1) (wr1 c2 y w2)
  · intro c1 h1 y hy ho
    rw [se']
    by_cases hb : bN (tW T (c * 3 + k0)) y = 1
    · have hwc : wrn T c y := ⟨k0, by omega, hb⟩
      rw [(u2 y hy).1 (g5 y hy hb)]
      show seL M c y k0 = _
      by_cases e : c1 = c
      · rw [e, eLs]
      · rw [eLn c1 e, hseN h1 (hd c hc c1 h1 (Ne.symm e) y hy hwc)]
        refine seL_none k0 (fun j hj q => ho c hc (Ne.symm e) ⟨j, by rw [eLs]; exact hj, ?_⟩)
        show bN (tW T (c * 3 + j)) y = 1
        rw [(hg c hc j (by omega)).2.1]
        exact q
    · rw [(u2 y hy).2 (fun k hk e => hb (by have := (g4 k hk).1; rw [e] at this; exact this))]
      rw [hn c1 h1 y hy (fun c' hc' hne q => ho c' hc' hne (wr2 c' y hb q))]
      by_cases e : c1 = c
      · rw [e, eLs, hk0, seL_skip (by rw [← g2]; exact hb)]
      · rw [eLn c1 e]
theorem upN_up (f : Nat → Nat) (k x y : Nat) : upN (upN f k x) k y = upN f k y := by
  funext j
  unfold upN
  by_cases e : j = k
  · rw [if_pos e, if_pos e]
  · rw [if_neg e, if_neg e, if_neg e]
theorem Rel.ga {c : Nat} (hc : c < 4) : ∀ (n : Nat) (C : CS) (T : TS) (M : MS), tL T c = n → Rel C T M → Rel (gaL c n C T).1 (gaL c n C T).2 (M.1, upN (mL M) c 0, M.2.2) := by
  intro n
  induction n with
  | zero =>
    intro C T M h0 h
    have e : upN (mL M) c 0 = mL M := by
      funext j
      unfold upN
      by_cases e : j = c
      · rw [if_pos e, e, h.2.2.1 c hc, h0]
      · rw [if_neg e]
    rw [e]
    exact h
  | succ n ih =>
    intro C T M h0 h
    have q := ih (udC C T c) (udT T c) (menD M c) (by show upN (tL T) c (tL T c - 1) c = n; rw [upN_s]; omega) (h.ud hc (by omega))
    have e : upN (mL (menD M c)) c 0 = upN (mL M) c 0 := upN_up _ _ _ _
    rw [e] at q
    exact q
/-! end -/
theorem enL_ok {q : Nat} (hq1 : 1 ≤ q) (hq : q < 12) (g : Nat → Int32) (W0 : Int32) : ∀ (n k : Nat) (T : TS), k + n = tZ T q → WT T → tZ T (q - 1) = cnt (tW T (q - 1)) → (∀ i, i < 16 → bN W0 i = 1 → bN (tW T (q - 1)) i = 1) →
    (∀ j, j < tZ T (q - 1) → bN (tW T (q - 1)) (tC T ((q - 1) * 16 + j)) = 1 ∧ tO T ((q - 1) * 16 + j) = g (tC T ((q - 1) * 16 + j))) → (∀ x, x < 16 → bN (tW T (q - 1)) x = 1 → ∃ j, j < tZ T (q - 1) ∧ tC T ((q - 1) * 16 + j) = x) → (∀ j, j < tZ T q → ¬ bN W0 (tC T (q * 16 + j)) = 1 → tO T (q * 16 + j) = g (tC T (q * 16 + j))) →
    WT (enL q n k T) ∧ tL (enL q n k T) = tL T ∧ tR (enL q n k T) = tR T ∧ (∀ i, i ≠ q - 1 → tW (enL q n k T) i = tW T i ∧ tZ (enL q n k T) i = tZ T i ∧ ∀ j, j < 16 → tC (enL q n k T) (i * 16 + j) = tC T (i * 16 + j) ∧ tO (enL q n k T) (i * 16 + j) = tO T (i * 16 + j)) ∧
    tZ (enL q n k T) (q - 1) = cnt (tW (enL q n k T) (q - 1)) ∧ (∀ i, i < 32 → (bN (tW (enL q n k T) (q - 1)) i = 1 ↔ bN (tW T (q - 1)) i = 1 ∨ ∃ j, k ≤ j ∧ j < k + n ∧ tC T (q * 16 + j) = i)) ∧
    (∀ j, j < tZ (enL q n k T) (q - 1) → bN (tW (enL q n k T) (q - 1)) (tC (enL q n k T) ((q - 1) * 16 + j)) = 1 ∧ tO (enL q n k T) ((q - 1) * 16 + j) = g (tC (enL q n k T) ((q - 1) * 16 + j))) ∧ ∀ x, x < 16 → bN (tW (enL q n k T) (q - 1)) x = 1 → ∃ j, j < tZ (enL q n k T) (q - 1) ∧ tC (enL q n k T) ((q - 1) * 16 + j) = x := by
  intro n
  induction n with
  | zero =>
    intro k T hk hT hz hw h4 h5 h6
    refine ⟨hT, rfl, rfl, fun i _ => ⟨rfl, rfl, fun j _ => ⟨rfl, rfl⟩⟩, hz, fun i _ => ⟨fun h => Or.inl h, ?_⟩, h4, h5⟩
    rintro (h | ⟨j, a1, a2, _⟩)
    · exact h
    · omega
  | succ n ih =>
    intro k T hk hT hz hw h4 h5 h6
    have hx : tC T (q * 16 + k) < 16 := hT.2.2 _ (by have := hT.2.1 q hq; omega)
    unfold enL
    by_cases hb : bN (tW T (q - 1)) (tC T (q * 16 + k)) = 0
    · rw [if_pos hb]
      have hz16 : tZ T (q - 1) < 16 := by
        rw [hz]
        exact cnt_lt hx hb
      have hzq := hT.2.1 q hq
      have hO : tO T (q * 16 + k) = g (tC T (q * 16 + k)) := h6 k (by omega) (fun z => by have := hw _ hx z; omega)
      have hW' := WT_lgT hT hz16 hx (tO T (q * 16 + k))
      have lL : tL (lgT T (q - 1) (tC T (q * 16 + k)) (tO T (q * 16 + k))) = tL T := rfl
      have lR : tR (lgT T (q - 1) (tC T (q * 16 + k)) (tO T (q * 16 + k))) = tR T := rfl
      have lW : tW (lgT T (q - 1) (tC T (q * 16 + k)) (tO T (q * 16 + k))) (q - 1) = tW T (q - 1) ||| b1 (tC T (q * 16 + k)) := pk_us
      have lWn : ∀ i, i ≠ q - 1 → tW (lgT T (q - 1) (tC T (q * 16 + k)) (tO T (q * 16 + k))) i = tW T i := fun i hi => pk_un hi
      have lZ : tZ (lgT T (q - 1) (tC T (q * 16 + k)) (tO T (q * 16 + k))) (q - 1) = tZ T (q - 1) + 1 := upN_s
      have lZn : ∀ i, i ≠ q - 1 → tZ (lgT T (q - 1) (tC T (q * 16 + k)) (tO T (q * 16 + k))) i = tZ T i := fun i hi => upN_n hi
      have lC : tC (lgT T (q - 1) (tC T (q * 16 + k)) (tO T (q * 16 + k))) ((q - 1) * 16 + tZ T (q - 1)) = tC T (q * 16 + k) := upN_s
      have lCn : ∀ i, i ≠ (q - 1) * 16 + tZ T (q - 1) → tC (lgT T (q - 1) (tC T (q * 16 + k)) (tO T (q * 16 + k))) i = tC T i := fun i hi => upN_n hi
      have lO : tO (lgT T (q - 1) (tC T (q * 16 + k)) (tO T (q * 16 + k))) ((q - 1) * 16 + tZ T (q - 1)) = tO T (q * 16 + k) := pk_us
      have lOn : ∀ i, i ≠ (q - 1) * 16 + tZ T (q - 1) → tO (lgT T (q - 1) (tC T (q * 16 + k)) (tO T (q * 16 + k))) i = tO T i := fun i hi => pk_un hi
      generalize lgT T (q - 1) (tC T (q * 16 + k)) (tO T (q * 16 + k)) = T2 at *
      have bo : ∀ i, i < 32 → bN (tW T2 (q - 1)) i = if i = tC T (q * 16 + k) then 1 else bN (tW T (q - 1)) i := fun i hi => by rw [lW]; exact bN_or1 _ (by omega) hi
      obtain ⟨r1, r2, r3, r4, r5, r6, r7, r8⟩ := ih (k + 1) T2 (by rw [lZn q (by omega)]; omega) hW' (by rw [lZ, lW, cnt_add hx hb, hz]) (by
        intro i hi hi1
        rw [bo i (by omega)]
        split
        · rfl
        · exact hw i hi hi1) (by
        intro j hj
        rw [lZ] at hj
        by_cases e : j = tZ T (q - 1)
        · rw [e, lC, lO, bo _ (by omega), if_pos rfl]
          exact ⟨rfl, hO⟩
        · rw [lCn _ (by omega), lOn _ (by omega)]
          have c16 : tC T ((q - 1) * 16 + j) < 16 := hT.2.2 _ (by omega)
          refine ⟨?_, (h4 j (by omega)).2⟩
          rw [bo _ (by omega)]
          split
          · rfl
          · exact (h4 j (by omega)).1) (by
        intro x hx' hbx
        rw [bo x (by omega)] at hbx
        by_cases e : x = tC T (q * 16 + k)
        · exact ⟨tZ T (q - 1), by omega, by rw [lC, e]⟩
        · rw [if_neg e] at hbx
          obtain ⟨j, a1, a2⟩ := h5 x hx' hbx
          exact ⟨j, by omega, by rw [lCn _ (by omega)]; exact a2⟩) (by
        intro j hj hnb
        rw [lZn q (by omega)] at hj
        rw [lCn _ (by omega)] at hnb ⊢
        rw [lOn _ (by omega)]
        exact h6 j hj hnb)
      refine ⟨r1, r2.trans lL, r3.trans lR, ?_, r5, ?_, r7, r8⟩
      · intro i hi
        obtain ⟨s1, s2, s3⟩ := r4 i hi
        refine ⟨s1.trans (lWn i hi), s2.trans (lZn i hi), fun j hj => ?_⟩
        obtain ⟨s4, s5⟩ := s3 j hj
        exact ⟨s4.trans (lCn _ (by omega)), s5.trans (lOn _ (by omega))⟩
      · intro i hi
        rw [r6 i hi, bo i hi]
        constructor
        · rintro (z | ⟨j, a1, a2, a3⟩)
          · by_cases e : i = tC T (q * 16 + k)
            · exact Or.inr ⟨k, by omega, by omega, e.symm⟩
            · rw [if_neg e] at z
              exact Or.inl z
          · rw [lCn _ (by omega)] at a3
            exact Or.inr ⟨j, by omega, by omega, a3⟩
        · rintro (z | ⟨j, a1, a2, a3⟩)
          · left
            split
            · rfl
            · exact z
          · by_cases e : j = k
            · left
              rw [e] at a3
              rw [if_pos a3.symm]
            · exact Or.inr ⟨j, by omega, by omega, by rw [lCn _ (by omega)]; exact a3⟩
    · rw [if_neg hb]
      have hb1 : bN (tW T (q - 1)) (tC T (q * 16 + k)) = 1 := by
        have := bN_le (tW T (q - 1)) (tC T (q * 16 + k))
        omega
      obtain ⟨r1, r2, r3, r4, r5, r6, r7, r8⟩ := ih (k + 1) T (by omega) hT hz hw h4 h5 h6
      refine ⟨r1, r2, r3, r4, r5, ?_, r7, r8⟩
      intro i hi
      rw [r6 i hi]
      constructor
      · rintro (z | ⟨j, a1, a2, a3⟩)
        · exact Or.inl z
        · exact Or.inr ⟨j, by omega, by omega, a3⟩
      · rintro (z | ⟨j, a1, a2, a3⟩)
        · exact Or.inl z
        · by_cases e : j = k
          · rw [e] at a3
            rw [← a3]
            exact Or.inl hb1
          · exact Or.inr ⟨j, by omega, by omega, a3⟩
theorem menL_0 {c q : Nat} : ∀ (n k : Nat) (M : MS), mL M c = 0 → (menL c q n k M).2 = M.2 ∧ ∀ x, mM (menL c q n k M) x = if k ≤ x ∧ x < k + n ∧ bN (mW M q) x = 1 then mV M (16 * q + x) else mM M x := by
  intro n
  induction n with
  | zero =>
    intro k M _
    exact ⟨rfl, fun x => by rw [if_neg (by omega)]; rfl⟩
  | succ n ih =>
    intro k M h0
    unfold menL
    by_cases hb : bN (mW M q) k = 1
    · rw [if_pos hb]
      have e : mput M c k (mV M (16 * q + k)) = (upd (mM M) k (mV M (16 * q + k)), M.2) := by unfold mput; rw [if_pos h0]
      rw [e]
      obtain ⟨a1, a2⟩ := ih (k + 1) (upd (mM M) k (mV M (16 * q + k)), M.2) h0
      refine ⟨a1, fun x => ?_⟩
      rw [a2 x]
      show (if k + 1 ≤ x ∧ x < k + 1 + n ∧ bN (mW M q) x = 1 then mV M (16 * q + x) else upd (mM M) k (mV M (16 * q + k)) x) = _
      by_cases ex : x = k
      · subst ex
        rw [if_neg (by omega), pk_us, if_pos ⟨by omega, by omega, hb⟩]
      · rw [pk_un ex]
        by_cases z : k ≤ x ∧ x < k + (n + 1) ∧ bN (mW M q) x = 1
        · rw [if_pos z, if_pos ⟨by omega, by omega, z.2.2⟩]
        · rw [if_neg z, if_neg (fun y => z ⟨by omega, by omega, y.2.2⟩)]
    · rw [if_neg hb]
      obtain ⟨a1, a2⟩ := ih (k + 1) M h0
      refine ⟨a1, fun x => ?_⟩
      rw [a2 x]
      by_cases z : k ≤ x ∧ x < k + (n + 1) ∧ bN (mW M q) x = 1
      · have : x ≠ k := fun e => hb (by rw [← e]; exact z.2.2)
        rw [if_pos z, if_pos ⟨by omega, by omega, z.2.2⟩]
      · rw [if_neg z, if_neg (fun y => z ⟨by omega, by omega, y.2.2⟩)]
theorem menL_s {c b : Nat} (hb0 : b ≠ 0) : ∀ (n k : Nat) (M : MS), k + n = 16 → mL M c = b → (mM (menL c (4 * c + (b + 1)) n k M) = mM M ∧ mL (menL c (4 * c + (b + 1)) n k M) = mL M ∧ mR (menL c (4 * c + (b + 1)) n k M) = mR M) ∧ (∀ i, i ≠ 4 * c + b → mW (menL c (4 * c + (b + 1)) n k M) i = mW M i) ∧ (∀ i, i < 32 → (bN (mW (menL c (4 * c + (b + 1)) n k M) (4 * c + b)) i = 1 ↔ bN (mW M (4 * c + b)) i = 1 ∨ (k ≤ i ∧ i < 16 ∧ bN (mW M (4 * c + (b + 1))) i = 1))) ∧ (∀ i, (∀ x, x < 16 → i ≠ 16 * (4 * c + b) + x) → mV (menL c (4 * c + (b + 1)) n k M) i = mV M i) ∧ ∀ x, x < 16 → mV (menL c (4 * c + (b + 1)) n k M) (16 * (4 * c + b) + x) = if k ≤ x ∧ bN (mW M (4 * c + (b + 1))) x = 1 then mV M (16 * (4 * c + (b + 1)) + x) else mV M (16 * (4 * c + b) + x) := by
  intro n
  induction n with
  | zero =>
    intro k M hk hL
    refine ⟨⟨rfl, rfl, rfl⟩, fun i _ => rfl, fun i _ => ⟨fun h => Or.inl h, ?_⟩, fun i _ => rfl, fun x hx => ?_⟩
    · rintro (h | h)
      · exact h
      · omega
    · rw [if_neg (by omega)]
      rfl
  | succ n ih =>
    intro k M hk hL
    unfold menL
    by_cases hb : bN (mW M (4 * c + (b + 1))) k = 1
    · rw [if_pos hb]
      have e : mput M c k (mV M (16 * (4 * c + (b + 1)) + k)) = (M.1, M.2.1, M.2.2.1, upd (mW M) (4 * c + b) (mW M (4 * c + b) ||| b1 k), upd (mV M) (16 * (4 * c + b) + k) (mV M (16 * (4 * c + (b + 1)) + k))) := by unfold mput; rw [if_neg (by omega), hL]
      rw [e]
      generalize hM' : ((M.1, M.2.1, M.2.2.1, upd (mW M) (4 * c + b) (mW M (4 * c + b) ||| b1 k), upd (mV M) (16 * (4 * c + b) + k) (mV M (16 * (4 * c + (b + 1)) + k))) : MS) = M'
      have mMe : mM M' = mM M := by rw [← hM']
      have mLe : mL M' = mL M := by rw [← hM']
      have mRe : mR M' = mR M := by rw [← hM']
      have mWs : mW M' (4 * c + b) = mW M (4 * c + b) ||| b1 k := by rw [← hM']; exact pk_us
      have mWn : ∀ i, i ≠ 4 * c + b → mW M' i = mW M i := fun i hi => by rw [← hM']; exact pk_un hi
      have mVs : mV M' (16 * (4 * c + b) + k) = mV M (16 * (4 * c + (b + 1)) + k) := by rw [← hM']; exact pk_us
      have mVn : ∀ i, i ≠ 16 * (4 * c + b) + k → mV M' i = mV M i := fun i hi => by rw [← hM']; exact pk_un hi
      clear hM' e
      obtain ⟨⟨a1, a2, a3⟩, a4, a5, a6, a7⟩ := ih (k + 1) M' (by omega) (by rw [mLe]; exact hL)
      refine ⟨⟨a1.trans mMe, a2.trans mLe, a3.trans mRe⟩, fun i hi => (a4 i hi).trans (mWn i hi), fun i hi => ?_, fun i hi => (a6 i hi).trans (mVn i (hi k (by omega))), fun x hx => ?_⟩
      · rw [a5 i hi, mWs, mWn (4 * c + (b + 1)) (by omega), bN_or1 _ (by omega) hi]
        constructor
        · rintro (z | ⟨z1, z2, z3⟩)
          · by_cases ei : i = k
            · exact Or.inr ⟨by omega, by omega, by rw [ei]; exact hb⟩
            · rw [if_neg ei] at z
              exact Or.inl z
          · exact Or.inr ⟨by omega, z2, z3⟩
        · rintro (z | ⟨z1, z2, z3⟩)
          · left
            split
            · rfl
            · exact z
          · by_cases ei : i = k
            · left
              rw [if_pos ei]
            · exact Or.inr ⟨by omega, z2, z3⟩
      · rw [a7 x hx, mWn (4 * c + (b + 1)) (by omega)]
        by_cases ex : x = k
        · subst ex
          rw [if_neg (by omega), if_pos ⟨by omega, hb⟩, mVs]
        · rw [mVn (16 * (4 * c + (b + 1)) + x) (by omega), mVn (16 * (4 * c + b) + x) (by omega)]
          by_cases z : k ≤ x ∧ bN (mW M (4 * c + (b + 1))) x = 1
          · rw [if_pos z, if_pos ⟨by omega, z.2⟩]
          · rw [if_neg z, if_neg (fun y => z ⟨by omega, y.2⟩)]
    · rw [if_neg hb]
      obtain ⟨a1, a4, a5, a6, a7⟩ := ih (k + 1) M (by omega) hL
      refine ⟨a1, a4, fun i hi => ?_, a6, fun x hx => ?_⟩
      · rw [a5 i hi]
        constructor
        · rintro (z | ⟨z1, z2, z3⟩)
          · exact Or.inl z
          · exact Or.inr ⟨by omega, z2, z3⟩
        · rintro (z | ⟨z1, z2, z3⟩)
          · exact Or.inl z
          · by_cases ei : i = k
            · rw [ei] at z3
              exact absurd z3 hb
            · exact Or.inr ⟨by omega, z2, z3⟩
      · rw [a7 x hx]
        by_cases z : k ≤ x ∧ bN (mW M (4 * c + (b + 1))) x = 1
        · have : x ≠ k := fun e => hb (by rw [← e]; exact z.2)
          rw [if_pos z, if_pos ⟨by omega, z.2⟩]
        · rw [if_neg z, if_neg (fun y => z ⟨by omega, y.2⟩)]
end
section
/-! end keeps the relation -/
theorem Rel.en1 {C : CS} {T : TS} {M : MS} (h : Rel C T M) {c : Nat} (hc : c < 4) (h1 : tL T c = 1) : Rel C (enT T c) (menM M c) := by
  have hseN := fun {c' y : Nat} (hc' : c' < 4) (hw : ¬ wrn T c' y) => h.seN hc' hw (Nat.le_refl _)
  obtain ⟨hC, hT, hl, hg, hd, hn⟩ := h
  have hL := hl c hc
  obtain ⟨g1, g2, g3, g4, g5⟩ := hg c hc 0 (by omega)
  have eLs : tL (udT T c) c = 0 := by
    show upN (tL T) c (tL T c - 1) c = 0
    rw [upN_s]
    omega
  have eLn : ∀ i, i ≠ c → tL (udT T c) i = tL T i := fun i hi => upN_n hi
  have eT : enT T c = udT T c := by unfold enT; rw [if_pos eLs]
  rw [eT]
  have mLs : mL (menD M c) c = 0 := by
    show upN (mL M) c (mL M c - 1) c = 0
    rw [upN_s]
    omega
  have mLn : ∀ i, i ≠ c → mL (menD M c) i = mL M i := fun i hi => upN_n hi
  obtain ⟨a1, a2⟩ := menL_0 (q := 4 * c + (0 + 1)) 16 0 (menD M c) mLs
  have eM : menM M c = menE (menL c (4 * c + (0 + 1)) 16 0 (menD M c)) c (4 * c + (0 + 1)) := by
    unfold menM
    rw [show 4 * c + mL M c = 4 * c + (0 + 1) by omega]
  rw [eM]
  generalize menL c (4 * c + (0 + 1)) 16 0 (menD M c) = M1 at a1 a2 ⊢
  have b2 : ∀ x, x < 16 → mM (menE M1 c (4 * c + (0 + 1))) x = if bN (mW M (4 * c + (0 + 1))) x = 1 then mV M (16 * (4 * c + (0 + 1)) + x) else mM M x := by
    intro x hx
    show mM M1 x = _
    rw [a2 x]
    show (if 0 ≤ x ∧ x < 0 + 16 ∧ bN (mW M (4 * c + (0 + 1))) x = 1 then mV M (16 * (4 * c + (0 + 1)) + x) else mM M x) = _
    by_cases z : bN (mW M (4 * c + (0 + 1))) x = 1
    · rw [if_pos z, if_pos ⟨by omega, by omega, z⟩]
    · rw [if_neg z, if_neg (fun y => z y.2.2)]
  have eL' : mL (menE M1 c (4 * c + (0 + 1))) = mL (menD M c) := by
    show M1.2.1 = _
    rw [a1]
  have eW' : mW (menE M1 c (4 * c + (0 + 1))) = mW M := by
    show M1.2.2.2.1 = _
    rw [a1]
    rfl
  have eV' : mV (menE M1 c (4 * c + (0 + 1))) = mV M := by
    show M1.2.2.2.2 = _
    rw [a1]
    rfl
  have eR' : ∀ i, i ≠ 4 * c → mR (menE M1 c (4 * c + (0 + 1))) i = mR M i := by
    intro i hi
    show upd (mR M1) (4 * c + (0 + 1) - 1) _ i = _
    rw [pk_un (by omega)]
    show M1.2.2.1 i = _
    rw [a1]
    rfl
  generalize menE M1 c (4 * c + (0 + 1)) = M' at *
  have wr1 : ∀ i y, wrn (udT T c) i y → wrn T i y ∧ i ≠ c := by
    rintro i y ⟨k, hk, hb⟩
    have e : i ≠ c := fun e => by rw [e, eLs] at hk; omega
    rw [eLn i e] at hk
    exact ⟨⟨k, hk, hb⟩, e⟩
  have wr2 : ∀ i y, i ≠ c → wrn T i y → wrn (udT T c) i y := by
    rintro i y e ⟨k, hk, hb⟩
    exact ⟨k, by rw [eLn i e]; exact hk, hb⟩
  have wc : ∀ y, wrn T c y ↔ bN (mW M (4 * c + (0 + 1))) y = 1 := by
    intro y
    constructor
    · rintro ⟨k, hk, hb⟩
      obtain rfl : k = 0 := by omega
      rw [← g2]
      exact hb
    · intro hb
      exact ⟨0, by omega, by rw [g2]; exact hb⟩
  have se' : ∀ i y k, y < 16 → ¬ wrn T c y → seL M' i y k = seL M i y k := by
    intro i y k hy hw
    refine seL_congr k ?_ (fun j _ => by rw [eW', eV']; exact ⟨rfl, rfl⟩)
    rw [b2 y hy, if_neg (fun z => hw ((wc y).mpr z))]
  refine ⟨hC, WT_udT hT c hc, ?_, ?_, ?_, ?_⟩
  · intro i hi
    rw [eL']
    by_cases e : i = c
    · rw [e, mLs, eLs]
    · rw [mLn i e, eLn i e]
      exact hl i hi
  · intro i hi k hk
    have e : i ≠ c := fun e => by rw [e, eLs] at hk; omega
    rw [eLn i e] at hk
    have := hT.1 i hi
    exact (hg i hi k hk).tr (hT.z hi hk) (hT.c hi hk) (by rw [eR' _ (by omega)]; exact (hg i hi k hk).1) rfl (by rw [eW']) rfl (fun j _ => rfl) (fun j _ => rfl) (fun y hy hb => se' i y k hy (hd i hi c hc e y hy ⟨k, hk, hb⟩))
  · intro c1 q1 c2 q2 hne y hy w1 w2
    exact hd c1 q1 c2 q2 hne y hy (wr1 c1 y w1).1 (wr1 c2 y w2).1
  · intro c1 q1 y hy ho
    by_cases hw : wrn T c y
    · have hb := (wc y).mp hw
      rw [hn c hc y hy (fun c' hc' hne => hd c hc c' hc' (Ne.symm hne) y hy hw), h1, seL_hit hb]
      have e0 : seL M' c1 y (tL (udT T c) c1) = mM M' y := by
        by_cases e : c1 = c
        · rw [e, eLs]
          rfl
        · rw [eLn c1 e]
          refine seL_none _ (fun j hj z => hd c hc c1 q1 (Ne.symm e) y hy hw ⟨j, hj, ?_⟩)
          rw [(hg c1 q1 j hj).2.1, ← eW']
          exact z
      rw [e0, b2 y hy, if_pos hb]
    · rw [se' c1 y _ hy hw]
      have ho' : ∀ c', c' < 4 → c' ≠ c1 → ¬ wrn T c' y := by
        intro c' hc' hne q
        by_cases e : c' = c
        · rw [e] at q
          exact hw q
        · exact ho c' hc' hne (wr2 c' y e q)
      rw [hn c1 q1 y hy ho']
      by_cases e : c1 = c
      · rw [e, eLs, hseN hc hw]
        rfl
      · rw [eLn c1 e]
theorem Rel.en2 {C : CS} {T : TS} {M : MS} (h : Rel C T M) {c b : Nat} (hc : c < 4) (h1 : tL T c = b + 1) (hb0 : b ≠ 0) : Rel C (enT T c) (menM M c) := by
  obtain ⟨hC, hT, hl, hg, hd, hn⟩ := h
  have hL := hl c hc
  have hl3 := hT.1 c hc
  obtain ⟨p1, p2, p3, p4, p5⟩ := hg c hc b (by omega)
  obtain ⟨b', hb'⟩ : ∃ b', b = b' + 1 := ⟨b - 1, by omega⟩
  have hq1 : c * 3 + b - 1 = c * 3 + b' := by omega
  obtain ⟨g1, g2, g3, g4, g5⟩ := hg c hc b' (by omega)
  have eLs : tL (udT T c) c = b := by
    show upN (tL T) c (tL T c - 1) c = b
    rw [upN_s]
    omega
  have eLn : ∀ i, i ≠ c → tL (udT T c) i = tL T i := fun i hi => upN_n hi
  have eT : enT T c = enL (c * 3 + b) (tZ T (c * 3 + b)) 0 (enA (udT T c) c) := by unfold enT; rw [if_neg (by omega), eLs]
  have eA : tR (enA (udT T c) c) = upd (tR T) (c * 3 + b') (tR T (c * 3 + b') ||| tR T (c * 3 + b)) := by
    show upd (tR T) (c * 3 + tL (udT T c) c - 1) (tR T (c * 3 + tL (udT T c) c - 1) ||| tR T (c * 3 + tL (udT T c) c)) = _
    rw [eLs, hq1]
  have mLs : mL (menD M c) c = b := by
    show upN (mL M) c (mL M c - 1) c = b
    rw [upN_s]
    omega
  have mLn : ∀ i, i ≠ c → mL (menD M c) i = mL M i := fun i hi => upN_n hi
  -- the logs' side
  obtain ⟨r1, r2, r3, r4, r5, r6, r7, r8⟩ := enL_ok (q := c * 3 + b) (by omega) (by omega) (fun y => seL M c y b') (tW T (c * 3 + b')) (tZ T (c * 3 + b)) 0 (enA (udT T c) c) (Nat.zero_add _) (WT_enA (WT_udT hT c hc) c) (by rw [hq1]; exact g3) (fun i _ q => by rw [hq1]; exact q) (by rw [hq1]; exact g4) (by rw [hq1]; exact g5) (by
    intro j hj hnb
    show tO T _ = seL M c (tC T _) b'
    rw [(p4 j hj).2, hb']
    refine seL_skip ?_
    rw [← g2, ← hb']
    exact hnb)
  rw [eT]
  generalize enL (c * 3 + b) (tZ T (c * 3 + b)) 0 (enA (udT T c) c) = T' at *
  rw [hq1] at r4 r5 r6 r7 r8
  -- the reference's side
  obtain ⟨⟨a1, a2, a3⟩, a4, a5, a6, a7⟩ := menL_s (c := c) hb0 16 0 (menD M c) rfl mLs
  have eM : menM M c = menE (menL c (4 * c + (b + 1)) 16 0 (menD M c)) c (4 * c + (b + 1)) := by
    unfold menM
    rw [show 4 * c + mL M c = 4 * c + (b + 1) by omega]
  rw [eM]
  generalize menL c (4 * c + (b + 1)) 16 0 (menD M c) = M1 at *
  have fM : mM (menE M1 c (4 * c + (b + 1))) = mM M := a1
  have fL : mL (menE M1 c (4 * c + (b + 1))) = mL (menD M c) := a2
  have fR : mR (menE M1 c (4 * c + (b + 1))) = upd (mR M) (4 * c + b) (mR M (4 * c + b) ||| mR M (4 * c + (b + 1))) := by
    show upd (mR M1) (4 * c + (b + 1) - 1) (if mL M1 c = 0 then mR M1 (4 * c + (b + 1) - 1) else mR M1 (4 * c + (b + 1) - 1) ||| mR M1 (4 * c + (b + 1))) = _
    rw [a2, mLs, if_neg hb0, a3, show 4 * c + (b + 1) - 1 = 4 * c + b by omega]
    rfl
  have fWn : ∀ i, i ≠ 4 * c + b → mW (menE M1 c (4 * c + (b + 1))) i = mW M i := fun i hi => a4 i hi
  have fWs : ∀ i, i < 32 → (bN (mW (menE M1 c (4 * c + (b + 1))) (4 * c + b)) i = 1 ↔ bN (mW M (4 * c + b)) i = 1 ∨ (i < 16 ∧ bN (mW M (4 * c + (b + 1))) i = 1)) := by
    intro i hi
    refine (a5 i hi).trans ?_
    constructor
    · rintro (z | ⟨_, z2, z3⟩)
      · exact Or.inl z
      · exact Or.inr ⟨z2, z3⟩
    · rintro (z | ⟨z2, z3⟩)
      · exact Or.inl z
      · exact Or.inr ⟨by omega, z2, z3⟩
  have fVn : ∀ i, (∀ x, x < 16 → i ≠ 16 * (4 * c + b) + x) → mV (menE M1 c (4 * c + (b + 1))) i = mV M i := fun i hi => a6 i hi
  have fVs : ∀ x, x < 16 → mV (menE M1 c (4 * c + (b + 1))) (16 * (4 * c + b) + x) = if bN (mW M (4 * c + (b + 1))) x = 1 then mV M (16 * (4 * c + (b + 1)) + x) else mV M (16 * (4 * c + b) + x) := by
    intro x hx
    refine (a7 x hx).trans ?_
    show (if 0 ≤ x ∧ bN (mW M (4 * c + (b + 1))) x = 1 then mV M (16 * (4 * c + (b + 1)) + x) else mV M (16 * (4 * c + b) + x)) = _
    by_cases z : bN (mW M (4 * c + (b + 1))) x = 1
    · rw [if_pos z, if_pos ⟨by omega, z⟩]
    · rw [if_neg z, if_neg (fun y => z y.2)]
  generalize menE M1 c (4 * c + (b + 1)) = M' at *
  clear a1 a2 a3 a4 a5 a6 a7 eM eT
  -- the joined set
  have hW : tW T' (c * 3 + b') = mW M' (4 * c + b) := by
    refine bN_ext (fun i hi => ?_)
    rw [r6 i hi, fWs i hi]
    show (bN (tW T (c * 3 + b')) i = 1 ∨ ∃ j, 0 ≤ j ∧ j < 0 + tZ T (c * 3 + b) ∧ tC T ((c * 3 + b) * 16 + j) = i) ↔ _
    rw [g2, ← hb']
    constructor
    · rintro (z | ⟨j, _, z2, z3⟩)
      · exact Or.inl z
      · right
        have q := (p4 j (by omega)).1
        rw [z3, p2] at q
        have c16 := hT.c hc (show b < tL T c by omega) j (by have := hT.z hc (show b < tL T c by omega); omega)
        rw [z3] at c16
        exact ⟨c16, q⟩
    · rintro (z | ⟨z1, z2⟩)
      · exact Or.inl z
      · right
        obtain ⟨j, q1, q2⟩ := p5 i z1 (by rw [p2]; exact z2)
        exact ⟨j, by omega, by omega, q2⟩
  have tLs : tL T' c = b := by rw [r2]; exact eLs
  have tLn : ∀ i, i ≠ c → tL T' i = tL T i := fun i hi => by rw [r2]; exact eLn i hi
  have lowse : ∀ i, i < 4 → ∀ y, y < 16 → ∀ k, k ≤ tL T i → (i = c → k ≤ b') → seL M' i y k = seL M i y k := by
    intro i hi y hy k hk hkc
    have := hT.1 i hi
    refine seL_congr k (by rw [fM]) (fun j hj => ?_)
    have ne : 4 * i + (j + 1) ≠ 4 * c + b := by
      by_cases e : i = c
      · have := hkc e
        omega
      · omega
    rw [fWn _ ne, fVn _ (fun x hx => by omega)]
    exact ⟨rfl, rfl⟩
  have topse : ∀ y, y < 16 → seL M' c y b = seL M c y (b + 1) := by
    intro y hy
    have lo := lowse c hc y hy b' (by omega) (fun _ => Nat.le_refl _)
    rw [hb'] at fWs fVs ⊢
    by_cases z : bN (mW M (4 * c + (b' + 1 + 1))) y = 1
    · rw [seL_hit z, seL_hit ((fWs y (by omega)).mpr (Or.inr ⟨hy, z⟩)), fVs y hy, if_pos z]
    · rw [seL_skip z]
      by_cases z2 : bN (mW M (4 * c + (b' + 1))) y = 1
      · rw [seL_hit z2, seL_hit ((fWs y (by omega)).mpr (Or.inl z2)), fVs y hy, if_neg z]
      · rw [seL_skip z2, seL_skip (fun q => by rcases (fWs y (by omega)).mp q with w | w; exact z2 w; exact z w.2), lo]
  have wr' : ∀ i, i < 4 → ∀ y, y < 16 → (wrn T' i y ↔ wrn T i y) := by
    intro i hi y hy
    have := hT.1 i hi
    by_cases e : i = c
    · subst e
      constructor
      · rintro ⟨k, hk, hbk⟩
        rw [tLs] at hk
        by_cases ek : k = b'
        · rw [ek, hW] at hbk
          rcases (fWs y (by omega)).mp hbk with z | ⟨_, z⟩
          · exact ⟨b', by omega, by rw [g2, ← hb']; exact z⟩
          · exact ⟨b, by omega, by rw [p2]; exact z⟩
        · rw [(r4 (i * 3 + k) (by omega)).1] at hbk
          exact ⟨k, by omega, hbk⟩
      · rintro ⟨k, hk, hbk⟩
        by_cases ek : k < b'
        · exact ⟨k, by rw [tLs]; omega, by rw [(r4 (i * 3 + k) (by omega)).1]; exact hbk⟩
        · refine ⟨b', by rw [tLs]; omega, ?_⟩
          rw [hW]
          refine (fWs y (by omega)).mpr ?_
          by_cases e2 : k = b'
          · rw [e2, g2, ← hb'] at hbk
            exact Or.inl hbk
          · obtain rfl : k = b := by omega
            rw [p2] at hbk
            exact Or.inr ⟨hy, hbk⟩
    · constructor
      · rintro ⟨k, hk, hbk⟩
        rw [tLn i e] at hk
        rw [(r4 (i * 3 + k) (by omega)).1] at hbk
        exact ⟨k, hk, hbk⟩
      · rintro ⟨k, hk, hbk⟩
        exact ⟨k, by rw [tLn i e]; exact hk, by rw [(r4 (i * 3 + k) (by omega)).1]; exact hbk⟩
  refine ⟨hC, r1, ?_, ?_, ?_, ?_⟩
  · intro i hi
    rw [fL]
    by_cases e : i = c
    · rw [e, mLs, tLs]
    · rw [mLn i e, tLn i e]
      exact hl i hi
  · intro i hi k hk
    have := hT.1 i hi
    by_cases e : i * 3 + k = c * 3 + b'
    · have hki : k < 3 := by
        by_cases e2 : i = c
        · rw [e2, tLs] at hk
          omega
        · rw [tLn i e2] at hk
          omega
      obtain rfl : i = c := by omega
      obtain rfl : k = b' := by omega
      refine ⟨?_, by rw [hW, hb'], r5, ?_, r8⟩
      · rw [r3, eA, pk_us, fR, ← hb', pk_us, g1, p1, ← hb']
      · intro j hj
        obtain ⟨q1, q2⟩ := r7 j hj
        refine ⟨q1, ?_⟩
        have c16 : tC T' ((i * 3 + k) * 16 + j) < 16 := r1.2.2 _ (by have := r1.2.1 (i * 3 + k) (by omega); omega)
        rw [q2]
        exact (lowse i hi _ c16 k (by omega) (fun _ => Nat.le_refl _)).symm
    · have hk' : k < tL T i := by
        by_cases e2 : i = c
        · rw [e2, tLs] at hk
          rw [e2]
          omega
        · rw [tLn i e2] at hk
          exact hk
      obtain ⟨s1, s2, s3⟩ := r4 (i * 3 + k) e
      refine (hg i hi k hk').tr (hT.z hi hk') (hT.c hi hk') ?_ s1 (fWn _ (by omega)) s2 (fun j hj => (s3 j hj).1) (fun j hj => (s3 j hj).2) (fun y hy _ => lowse i hi y hy k (by omega) ?_)
      · rw [r3, eA, pk_un e, fR, pk_un (by omega)]
        exact (hg i hi k hk').1
      · intro e2
        rw [e2, tLs] at hk
        omega
  · intro c1 q1 c2 q2 hne y hy
    rw [wr' c1 q1 y hy, wr' c2 q2 y hy]
    exact hd c1 q1 c2 q2 hne y hy
  · intro c1 q1 y hy ho
    rw [hn c1 q1 y hy (fun c' hc' hne => by rw [← wr' c' hc' y hy]; exact ho c' hc' hne)]
    by_cases e : c1 = c
    · rw [e, tLs, h1]
      exact (topse y hy).symm
    · rw [tLn c1 e]
      exact (lowse c1 q1 y hy _ (Nat.le_refl _) (fun q => absurd q e)).symm
theorem Rel.en {C : CS} {T : TS} {M : MS} (h : Rel C T M) {c : Nat} (hc : c < 4) (h0 : tL T c ≠ 0) : Rel C (enT T c) (menM M c) := by
  by_cases h1 : tL T c = 1
  · exact h.en1 hc h1
  · exact h.en2 (b := tL T c - 1) hc (by omega) (by omega)
theorem Rel.enz {C : CS} {T : TS} {M : MS} (h : Rel C T M) {c : Nat} (hc : c < 4) : 2 ≤ tL T c → tZ T (c * 3 + (tL T c - 1) - 1) = cnt (tW T (c * 3 + (tL T c - 1) - 1)) := by
  intro h2
  rw [show c * 3 + (tL T c - 1) - 1 = c * 3 + (tL T c - 2) by omega]
  exact (h.2.2.2.1 c hc (tL T c - 2) (by omega)).2.2.1
end
section
/-! both sides of a call answer alike and keep the relation -/
def StepOK (yx : MethodName) (cx : ByteArray) (Lx dx : Nat) (ym : MethodName) (cm : ByteArray) (Lm dm : Nat) (As : List Value) (C : CS) (T : TS) (M : MS) : Prop := ∃ (C' : CS) (T' : TS) (M' : MS) (r : Int32), (∀ (l : Launch) (D : va_G) (o : Nat) (a : Nat → Nat) (d : Nat → ClassId), GMi l yx (ws_ yx cx Lx (some .int)) (rmD dx) D (tysX d) (wX o a d C T) (.ref o :: As) (wX o a d C' T') r) ∧ (∀ (l : Launch) (D : va_G) (o : Nat) (a : Nat → Nat) (d : Nat → ClassId), GMi l ym (ws_ ym cm Lm (some .int)) (rmD dm) D (tysM d) (wM o a d M) (.ref o :: As) (wM o a d M') r) ∧ Rel C' T' M'
theorem wrn_nt {T : TS} {c x d y : Nat} : wrn (ntR T c x) d y ↔ wrn T d y := by
  have eL : tL (ntR T c x) = tL T := by unfold ntR; split <;> rfl
  have eW : tW (ntR T c x) = tW T := by unfold ntR; split <;> rfl
  unfold wrn
  rw [eL, eW]
section OPS
variable {C : CS} {T : TS} {M : MS}
theorem op_begin (h : Rel C T M) (c : Int32) : StepOK yX0_begin cX0_begin 3 1 yX1_begin cX1_begin 2 1 [.int c] C T M := by
  rcases isI_cases c (n := 4) (by decide) with hb | ⟨j, hj, rfl⟩
  · exact ⟨C, T, M, -1, fun l D o a d => met_X0_begin_bad hb, fun l D o a d => met_X1_begin_bad hb, h⟩
  · exact ⟨C, bgT T j, mbgM M j, bgR T j, fun l D o a d => met_X0_begin hj h.2.1, fun l D o a d => by rw [(h.bg hj).1]; exact met_X1_begin hj h.wm, (h.bg hj).2⟩
theorem op_read (h : Rel C T M) (c x : Int32) : StepOK yX0_read cX0_read 3 3 yX1_read cX1_read 4 2 [.int c, .int x] C T M := by
  rcases isI_cases c (n := 4) (by decide) with hb | ⟨j, hj, rfl⟩
  · exact ⟨C, T, M, -1, fun l D o a d => met_X0_read_bad (Or.inl hb), fun l D o a d => met_X1_read_bad (Or.inl hb), h⟩
  rcases isI_cases x (n := 16) (by decide) with hb | ⟨i, hi, rfl⟩
  · exact ⟨C, T, M, -1, fun l D o a d => met_X0_read_bad (Or.inr hb), fun l D o a d => met_X1_read_bad (Or.inr hb), h⟩
  have er := h.riv0 j i
  by_cases hv : rivs T j i 0 = 0
  · have e1 : mrdR M j i = nI 0 := by unfold mrdR; rw [← er, if_pos hv]
    have e2 : mrdM M j i = mrdA M j i := by unfold mrdM; rw [← er, if_pos hv]
    exact ⟨ftch C j i, ntR T j i, mrdM M j i, mrdR M j i, fun l D o a d => by rw [e1]; exact met_X0_read hj hi h.1.1 h.2.1 hv, fun l D o a d => met_X1_read hj hi h.wm, by rw [e2]; exact h.rd hj hi⟩
  · have e1 : mrdR M j i = -2 := by unfold mrdR; rw [← er, if_neg hv]
    have e2 : mrdM M j i = M := by unfold mrdM; rw [← er, if_neg hv]
    exact ⟨C, T, mrdM M j i, mrdR M j i, fun l D o a d => by rw [e1]; exact met_X0_read_no hj hi h.1.1 h.2.1 hv, fun l D o a d => met_X1_read hj hi h.wm, by rw [e2]; exact h⟩
theorem op_sees (h : Rel C T M) (c x : Int32) : StepOK yX0_sees cX0_sees 3 5 yX1_sees cX1_sees 4 1 [.int c, .int x] C T M := by
  rcases isI_cases c (n := 4) (by decide) with hb | ⟨j, hj, rfl⟩
  · exact ⟨C, T, M, nI 0, fun l D o a d => met_X0_sees_bad (Or.inl hb), fun l D o a d => met_X1_sees_bad (Or.inl hb), h⟩
  rcases isI_cases x (n := 16) (by decide) with hb | ⟨i, hi, rfl⟩
  · exact ⟨C, T, M, nI 0, fun l D o a d => met_X0_sees_bad (Or.inr hb), fun l D o a d => met_X1_sees_bad (Or.inr hb), h⟩
  exact ⟨C, T, M, seeX C T j i, fun l D o a d => met_X0_sees hj hi h.1.1 h.2.1, fun l D o a d => by rw [h.see hj hi]; exact met_X1_sees hj hi h.wm, h⟩
theorem op_write (h : Rel C T M) (c x v : Int32) : StepOK yX0_write cX0_write 4 5 yX1_write cX1_write 4 3 [.int c, .int x, .int v] C T M := by
  rcases isI_cases c (n := 4) (by decide) with hb | ⟨j, hj, rfl⟩
  · exact ⟨C, T, M, -1, fun l D o a d => met_X0_write_bad (Or.inl hb), fun l D o a d => met_X1_write_bad (Or.inl hb), h⟩
  rcases isI_cases x (n := 16) (by decide) with hb | ⟨i, hi, rfl⟩
  · exact ⟨C, T, M, -1, fun l D o a d => met_X0_write_bad (Or.inr hb), fun l D o a d => met_X1_write_bad (Or.inr hb), h⟩
  have er := h.riv1 j i
  by_cases hv : rivs T j i 1 = 0
  · have e1 : mwrR M j i = nI 0 := by unfold mwrR; rw [← er, if_pos hv]
    have e2 : mwrM M j i v = mput M j i v := by unfold mwrM; rw [← er, if_pos hv]
    exact ⟨stor C j i v, chT C T j i, mwrM M j i v, mwrR M j i, fun l D o a d => by rw [e1]; exact met_X0_write hj hi h.1.1 h.2.1 (h.room hj hi) hv, fun l D o a d => met_X1_write hj hi h.wm, by rw [e2]; exact h.put v hj hi (riv_wr hv)⟩
  · have e1 : mwrR M j i = -2 := by unfold mwrR; rw [← er, if_neg hv]
    have e2 : mwrM M j i v = M := by unfold mwrM; rw [← er, if_neg hv]
    exact ⟨C, T, mwrM M j i v, mwrR M j i, fun l D o a d => by rw [e1]; exact met_X0_write_no hj hi h.1.1 h.2.1 hv, fun l D o a d => met_X1_write hj hi h.wm, by rw [e2]; exact h⟩
theorem op_add (h : Rel C T M) (c x v : Int32) : StepOK yX0_add cX0_add 5 5 yX1_add cX1_add 5 3 [.int c, .int x, .int v] C T M := by
  rcases isI_cases c (n := 4) (by decide) with hb | ⟨j, hj, rfl⟩
  · exact ⟨C, T, M, -1, fun l D o a d => met_X0_add_bad (Or.inl hb), fun l D o a d => met_X1_add_bad (Or.inl hb), h⟩
  rcases isI_cases x (n := 16) (by decide) with hb | ⟨i, hi, rfl⟩
  · exact ⟨C, T, M, -1, fun l D o a d => met_X0_add_bad (Or.inr hb), fun l D o a d => met_X1_add_bad (Or.inr hb), h⟩
  have er := h.riv1 j i
  by_cases hv : rivs T j i 1 = 0
  · have e1 : mwrR M j i = nI 0 := by unfold mwrR; rw [← er, if_pos hv]
    have e3 : mrdM M j i = mrdA M j i := by unfold mrdM; rw [← h.riv0 j i, if_pos (riv_10 hv)]
    have h1 := h.rd hj hi
    obtain ⟨p, q0, q1⟩ := ftch_ok h.1 hj hi
    have e4 : cD (ftch C j i) (lnO j i) = seL M j i (mL M j) := by
      rw [hold_nw p.1 (lnO_lt hj i) q0 q1, p.nw h.1 hi, h.2.2.1 j hj]
      exact h.2.2.2.2.2 j hj i hi (riv_wr hv)
    have e2 : madM M j i v = mput (mrdA M j i) j i (cD (ftch C j i) (lnO j i) + v) := by unfold madM; rw [← er, if_pos hv, e3, e4]
    exact ⟨_, _, madM M j i v, mwrR M j i, fun l D o a d => by rw [e1]; exact met_X0_add hj hi h.1.1 h.2.1 (h1.room hj hi) hv, fun l D o a d => met_X1_add hj hi h.wm, by rw [e2]; exact h1.put _ hj hi (fun d hd hdj q => riv_wr hv d hd hdj (wrn_nt.mp q))⟩
  · have e1 : mwrR M j i = -2 := by unfold mwrR; rw [← er, if_neg hv]
    have e2 : madM M j i v = M := by unfold madM; rw [← er, if_neg hv]
    exact ⟨C, T, madM M j i v, mwrR M j i, fun l D o a d => by rw [e1]; exact met_X0_add_no hj hi h.1.1 h.2.1 hv, fun l D o a d => met_X1_add hj hi h.wm, by rw [e2]; exact h⟩
theorem op_end (h : Rel C T M) (c : Int32) : StepOK yX0_end cX0_end 6 1 yX1_end cX1_end 4 1 [.int c] C T M := by
  rcases isI_cases c (n := 4) (by decide) with hb | ⟨j, hj, rfl⟩
  · exact ⟨C, T, M, -1, fun l D o a d => met_X0_end_bad hb, fun l D o a d => met_X1_end_bad hb, h⟩
  have hL := h.2.2.1 j hj
  by_cases h0 : tL T j = 0
  · exact ⟨C, T, M, -1, fun l D o a d => met_X0_end_z hj h0, fun l D o a d => met_X1_end_z hj (by omega), h⟩
  · have h1 := h.en hj h0
    exact ⟨C, enT T j, menM M j, nI (tL (enT T j) j), fun l D o a d => met_X0_end hj h.2.1 h0 (h.enz hj), fun l D o a d => by rw [← h1.2.2.1 j hj]; exact met_X1_end hj h.wm (by omega), h1⟩
theorem op_giveUp (h : Rel C T M) (c : Int32) : StepOK yX0_giveUp cX0_giveUp 2 5 yX1_giveUp cX1_giveUp 2 1 [.int c] C T M := by
  rcases isI_cases c (n := 4) (by decide) with hb | ⟨j, hj, rfl⟩
  · exact ⟨C, T, M, -1, fun l D o a d => met_X0_giveUp_bad hb, fun l D o a d => met_X1_giveUp_bad hb, h⟩
  have hL := h.2.2.1 j hj
  by_cases h0 : tL T j = 0
  · exact ⟨C, T, M, -1, fun l D o a d => met_X0_giveUp_z hj h0, fun l D o a d => met_X1_giveUp_z hj (by omega), h⟩
  · exact ⟨udC C T j, udT T j, menD M j, nI (tL T j - 1), fun l D o a d => met_X0_giveUp hj h.1.1 h.2.1 h0, fun l D o a d => by rw [← hL]; exact met_X1_giveUp hj h.wm (by omega), h.ud hj h0⟩
theorem op_giveAllUp (h : Rel C T M) (c : Int32) : StepOK yX0_giveAllUp cX0_giveAllUp 4 5 yX1_giveAllUp cX1_giveAllUp 3 1 [.int c] C T M := by
  rcases isI_cases c (n := 4) (by decide) with hb | ⟨j, hj, rfl⟩
  · exact ⟨C, T, M, -1, fun l D o a d => met_X0_giveAllUp_bad hb, fun l D o a d => met_X1_giveAllUp_bad hb, h⟩
  exact ⟨_, _, _, nI (tL T j), fun l D o a d => met_X0_giveAllUp hj h.1.1 h.2.1, fun l D o a d => by rw [← h.2.2.1 j hj]; exact met_X1_giveAllUp hj, Rel.ga hj (tL T j) C T M rfl h⟩
theorem op_level (h : Rel C T M) (c : Int32) : StepOK yX0_level cX0_level 2 1 yX1_level cX1_level 2 1 [.int c] C T M := by
  rcases isI_cases c (n := 4) (by decide) with hb | ⟨j, hj, rfl⟩
  · exact ⟨C, T, M, -1, fun l D o a d => met_X0_level_bad hb, fun l D o a d => met_X1_level_bad hb, h⟩
  exact ⟨C, T, M, nI (tL T j), fun l D o a d => met_X0_level hj, fun l D o a d => by rw [← h.2.2.1 j hj]; exact met_X1_level hj, h⟩
theorem op_committed (h : Rel C T M) (x : Int32) : StepOK yX0_committed cX0_committed 2 5 yX1_committed cX1_committed 2 1 [.int x] C T M := by
  rcases isI_cases x (n := 16) (by decide) with hb | ⟨i, hi, rfl⟩
  · exact ⟨C, T, M, nI 0, fun l D o a d => met_X0_committed_bad hb, fun l D o a d => met_X1_committed_bad hb, h⟩
  exact ⟨C, T, M, cmt C T i, fun l D o a d => met_X0_committed hi h.1.1 h.2.1, fun l D o a d => by rw [h.cm hi]; exact met_X1_committed hi, h⟩
theorem op_readBy (h : Rel C T M) (c : Int32) : StepOK yX0_readBy cX0_readBy 2 1 yX1_readBy cX1_readBy 2 1 [.int c] C T M := by
  rcases isI_cases c (n := 4) (by decide) with hb | ⟨j, hj, rfl⟩
  · exact ⟨C, T, M, nI 0, fun l D o a d => met_X0_readBy_bad hb, fun l D o a d => met_X1_readBy_bad hb, h⟩
  exact ⟨C, T, M, rset T j, fun l D o a d => met_X0_readBy hj h.2.1, fun l D o a d => by rw [h.rs hj]; exact met_X1_readBy hj h.wm, h⟩
theorem op_writtenBy (h : Rel C T M) (c : Int32) : StepOK yX0_writtenBy cX0_writtenBy 2 1 yX1_writtenBy cX1_writtenBy 2 1 [.int c] C T M := by
  rcases isI_cases c (n := 4) (by decide) with hb | ⟨j, hj, rfl⟩
  · exact ⟨C, T, M, nI 0, fun l D o a d => met_X0_writtenBy_bad hb, fun l D o a d => met_X1_writtenBy_bad hb, h⟩
  exact ⟨C, T, M, wset T j, fun l D o a d => met_X0_writtenBy hj h.2.1, fun l D o a d => by rw [h.ws hj]; exact met_X1_writtenBy hj h.wm, h⟩
theorem op_rivals (h : Rel C T M) (c x v : Int32) : StepOK yX0_rivals cX0_rivals 4 2 yX1_rivals cX1_rivals 4 2 [.int c, .int x, .int v] C T M := by
  rcases isI_cases c (n := 4) (by decide) with hb | ⟨j, hj, rfl⟩
  · exact ⟨C, T, M, nI 0, fun l D o a d => met_X0_rivals_bad (Or.inl hb), fun l D o a d => met_X1_rivals_bad (Or.inl hb), h⟩
  rcases isI_cases x (n := 16) (by decide) with hb | ⟨i, hi, rfl⟩
  · exact ⟨C, T, M, nI 0, fun l D o a d => met_X0_rivals_bad (Or.inr (Or.inl hb)), fun l D o a d => met_X1_rivals_bad (Or.inr (Or.inl hb)), h⟩
  by_cases hv : v = nI 0
  · subst hv
    exact ⟨C, T, M, rivs T j i 0, fun l D o a d => met_X0_rivals0 hj hi h.2.1, fun l D o a d => by rw [h.riv0 j i]; exact met_X1_rivals0 hj hi h.wm, h⟩
  by_cases hv1 : v = nI 1
  · subst hv1
    exact ⟨C, T, M, rivs T j i 1, fun l D o a d => met_X0_rivals1 hj hi h.2.1, fun l D o a d => by rw [h.riv1 j i]; exact met_X1_rivals1 hj hi h.wm, h⟩
  have hq : ¬ v = 0 ∧ ¬ v = nI 1 := ⟨fun q => hv (q.trans nI_0.symm), hv1⟩
  exact ⟨C, T, M, nI 0, fun l D o a d => met_X0_rivals_bad (Or.inr (Or.inr hq)), fun l D o a d => met_X1_rivals_bad (Or.inr (Or.inr hq)), h⟩
theorem op_digest (h : Rel C T M) : StepOK yX0_digest cX0_digest 4 5 yX1_digest cX1_digest 3 0 [] C T M := ⟨C, T, M, _, fun l D o a d => met_X0_digest h.1.1 h.2.1, fun l D o a d => by rw [h.dg]; exact met_X1_digest, h⟩
end OPS
def C0 : CS := (fun _ => 0, fun _ => 0, fun _ => 0, fun _ => 0)
def T0 : TS := (fun _ => 0, fun _ => 0, fun _ => 0, fun _ => 0, fun _ => 0, fun _ => 0)
def M0 : MS := (fun _ => 0, fun _ => 0, fun _ => 0, fun _ => 0, fun _ => 0)
theorem CI_0 : CI C0 := ⟨⟨fun _ _ => by show (0 : Nat) < 16; omega, fun _ _ => by show (0 : Nat) < 4; omega⟩, fun j _ h => absurd rfl h, fun i _ j _ _ h => absurd rfl h, fun j _ h => absurd rfl h⟩
theorem Rel_0 : Rel C0 T0 M0 := by
  refine ⟨CI_0, ⟨fun _ _ => by show (0 : Nat) ≤ 3; omega, fun _ _ => by show (0 : Nat) ≤ 16; omega, fun _ _ => by show (0 : Nat) < 16; omega⟩, fun c _ => rfl, fun c _ k hk => absurd hk (Nat.not_lt_zero k), ?_, ?_⟩
  · rintro c _ c' _ _ x _ ⟨k, hk, _⟩
    exact absurd hk (Nat.not_lt_zero k)
  · intro c _ x _ _
    refine NV_uniq CI_0 (NV_nwst CI_0 x) (Or.inr ⟨fun j _ h => ?_, rfl⟩)
    exact absurd (show (0 : Nat) = 3 from h) (by omega)
end
section
/-! the two makers -/
abbrev rmIX0 : Room := { frames := 1, cells := 10, slots := 488, locals := 30 }
set_option maxHeartbeats 4000000 in
set_option maxRecDepth 100000 in
theorem met_X0_init {l : Launch} {D : va_G} {o : Nat} (sz : Nat) : Met l yX0_init (ws_ yX0_init cX0_init 1 none) rmIX0 (va_Pc [.ref o] (gPre D [] [(o, .inr (0, [.null, .null, .null, .null, .null, .null, .null, .null, .null, .null]))] sz)) (va_Qv (fun (_ : (Nat → Nat) × (Nat → ClassId)) => True) (fun u t => va_P D vwCl (wX o u.1 u.2 C0 T0) t.heap ∧ va_K D vwCl (tysX u.2) t ∧ va_D (va_A [(o, .inr (0, [.null, .null, .null, .null, .null, .null, .null, .null, .null, .null]))] sz) (wX o u.1 u.2 C0 T0)) (va_A [(o, .inr (0, [.null, .null, .null, .null, .null, .null, .null, .null, .null, .null]))] sz)) 10 488 (va_A [(o, .inr (0, [.null, .null, .null, .null, .null, .null, .null, .null, .null, .null]))] sz) := by
  refine Met.ofW (cc := cX0_init) (maxL := 1) (ret := none) (by decide) rfl ?_
  intro p e s m args below meth c s₁ B hml hv
  obtain ⟨rfl, hsz, hP, hK, hD0⟩ := hv
  have hE := B.exec
  have hB := B.bytes
  have hr := B.returns
  have hts := atoms_spec (ws := ws_ yX0_init cX0_init 1 none) B.pre
  have hts : ∀ w ∈ lw_all, w.before _ s = true := fun w h => hts w (List.mem_cons_of_mem _ h)
  have hown : s.vm.findClass RX0 = some m.cls := findClass_of_methodNamed B.named
  have hlocks := B.notSynchronized
  have hin : meth.name = "<init>" := (name_of_methodNamed B.named B.method).1
  subst hsz
  have hD := hD0.self (sz := s.heap.size)
  generalize hAe : va_A [(o, .inr (0, [.null, .null, .null, .null, .null, .null, .null, .null, .null, .null]))] s.heap.size = A at hD ⊢
  have hA : ∀ q : Nat, s.heap.size ≤ q → A q := fun q h => by rw [← hAe]; exact Or.inr h
  have hS : va_S A s.heap s.heap [] := va_S.rf
  have hl := lv_entry ([.ref o]) (n := 1) (Nat.le_of_ble_eq_true rfl)
  rw [lg_entry_eq]
  generalize (lg_sl ([.ref o]) ++ List.replicate (1 - (lg_sl ([.ref o])).length) Slot.unset).toArray = ls at hl ⊢
  have hl : lv_has ls 1 [(0, .ref o)] := hl
  refine lv_aload_n hE hB dX0_init_0 rfl (lv_at hl 0 rfl) ?_
  refine W.objInit hE hB hown (hts _ q29) (hts _ q30) (hts _ q31) rfl (by rw [hml]; exact hl.1) rfl dX0_init_1 (Nat.le_of_ble_eq_true rfl) (Nat.le_of_ble_eq_true rfl) ?_
  refine W.eq (g2 := F0 m 4 ls []) rfl ?_
  refine lv_aload_n hE hB dX0_init_4 rfl (lv_at hl 0 rfl) ?_
  refine lv_bipush (v := nI 16) hE hB dX0_init_5 (by decide) ?_
  refine va_newa (atype := .int) (n := nI 16) (N' := 16) (ty := .int) (a0 := (16, .inl (fun _ => 0))) hE hB (hts _ q63) rfl hK hP hD hS hA (fun _ => rfl) (by decide) (by decide) (by decide) (Nat.le_of_ble_eq_true rfl) (Nat.le_of_ble_eq_true rfl) dX0_init_7 (fun q0 c0 H hK hP hD hS => ?_)
  have hP : va_P D vwCl [(o, .inr (0, [.null, .null, .null, .null, .null, .null, .null, .null, .null, .null])), (q0, .inl (c0, 16, .inl (fun _ => 0)))] H := hP
  have hD : va_D A [(o, .inr (0, [.null, .null, .null, .null, .null, .null, .null, .null, .null, .null])), (q0, .inl (c0, 16, .inl (fun _ => 0)))] := hD
  have hK : va_K D vwCl [(c0, .int)] s := hK
  refine W.widen (k := 1) (n := 16) (by omega) (by omega) ?_
  refine va_putF (D := D) (ci := 0) (v := .ref q0) (ty := .array .int) (C := RX0) (T := TX0) (N := 10) hE hB hts in_X0 tyX0 tyX0_ok nmX0 hown hK hP hD hS 0 rfl rfl 0 (by decide) (hts _ q32) (fun _ h9 => h9) rfl hin rfl (by decide +kernel) rfl rfl (Nat.le_of_ble_eq_true rfl) dX0_init_9 (fun H locs hP hD hS => ?_)
  have hP : va_P D vwCl [(o, .inr (0, [.ref q0, .null, .null, .null, .null, .null, .null, .null, .null, .null])), (q0, .inl (c0, 16, .inl (fun _ => 0)))] H := hP
  have hD : va_D A [(o, .inr (0, [.ref q0, .null, .null, .null, .null, .null, .null, .null, .null, .null])), (q0, .inl (c0, 16, .inl (fun _ => 0)))] := hD
  refine lv_aload_n hE hB dX0_init_12 rfl (lv_at hl 0 rfl) ?_
  refine lv_bipush (v := nI 16) hE hB dX0_init_13 (by decide) ?_
  refine va_newa (atype := .byte) (n := nI 16) (N' := 16) (ty := .byte) (a0 := (16, .inl (fun _ => nI 0))) hE hB (hts _ q64) rfl hK hP hD hS hA (fun _ => rfl) (by decide) (by decide) (by decide) (Nat.le_of_ble_eq_true rfl) (Nat.le_of_ble_eq_true rfl) dX0_init_15 (fun q1 c1 H hK hP hD hS => ?_)
  have hP : va_P D vwCl [(o, .inr (0, [.ref q0, .null, .null, .null, .null, .null, .null, .null, .null, .null])), (q0, .inl (c0, 16, .inl (fun _ => 0))), (q1, .inl (c1, 16, .inl (fun _ => nI 0)))] H := hP
  have hD : va_D A [(o, .inr (0, [.ref q0, .null, .null, .null, .null, .null, .null, .null, .null, .null])), (q0, .inl (c0, 16, .inl (fun _ => 0))), (q1, .inl (c1, 16, .inl (fun _ => nI 0)))] := hD
  have hK : va_K D vwCl [(c0, .int), (c1, .byte)] s := hK
  refine W.widen (k := 2) (n := 32) (by omega) (by omega) ?_
  refine va_putF (D := D) (ci := 0) (v := .ref q1) (ty := .array .byte) (C := RX0) (T := TX0) (N := 10) hE hB hts in_X0 tyX0 tyX0_ok nmX0 hown hK hP hD hS 0 rfl rfl 1 (by decide) (hts _ q33) (fun _ h9 => h9) rfl hin rfl (by decide +kernel) rfl rfl (Nat.le_of_ble_eq_true rfl) dX0_init_17 (fun H locs hP hD hS => ?_)
  have hP : va_P D vwCl [(o, .inr (0, [.ref q0, .ref q1, .null, .null, .null, .null, .null, .null, .null, .null])), (q0, .inl (c0, 16, .inl (fun _ => 0))), (q1, .inl (c1, 16, .inl (fun _ => nI 0)))] H := hP
  have hD : va_D A [(o, .inr (0, [.ref q0, .ref q1, .null, .null, .null, .null, .null, .null, .null, .null])), (q0, .inl (c0, 16, .inl (fun _ => 0))), (q1, .inl (c1, 16, .inl (fun _ => nI 0)))] := hD
  refine lv_aload_n hE hB dX0_init_20 rfl (lv_at hl 0 rfl) ?_
  refine lv_bipush (v := nI 16) hE hB dX0_init_21 (by decide) ?_
  refine va_newa (atype := .byte) (n := nI 16) (N' := 16) (ty := .byte) (a0 := (16, .inl (fun _ => nI 0))) hE hB (hts _ q64) rfl hK hP hD hS hA (fun _ => rfl) (by decide) (by decide) (by decide) (Nat.le_of_ble_eq_true rfl) (Nat.le_of_ble_eq_true rfl) dX0_init_23 (fun q2 c2 H hK hP hD hS => ?_)
  have hP : va_P D vwCl [(o, .inr (0, [.ref q0, .ref q1, .null, .null, .null, .null, .null, .null, .null, .null])), (q0, .inl (c0, 16, .inl (fun _ => 0))), (q1, .inl (c1, 16, .inl (fun _ => nI 0))), (q2, .inl (c2, 16, .inl (fun _ => nI 0)))] H := hP
  have hD : va_D A [(o, .inr (0, [.ref q0, .ref q1, .null, .null, .null, .null, .null, .null, .null, .null])), (q0, .inl (c0, 16, .inl (fun _ => 0))), (q1, .inl (c1, 16, .inl (fun _ => nI 0))), (q2, .inl (c2, 16, .inl (fun _ => nI 0)))] := hD
  have hK : va_K D vwCl [(c0, .int), (c1, .byte), (c2, .byte)] s := hK
  refine W.widen (k := 3) (n := 48) (by omega) (by omega) ?_
  refine va_putF (D := D) (ci := 0) (v := .ref q2) (ty := .array .byte) (C := RX0) (T := TX0) (N := 10) hE hB hts in_X0 tyX0 tyX0_ok nmX0 hown hK hP hD hS 0 rfl rfl 2 (by decide) (hts _ q34) (fun _ h9 => h9) rfl hin rfl (by decide +kernel) rfl rfl (Nat.le_of_ble_eq_true rfl) dX0_init_25 (fun H locs hP hD hS => ?_)
  have hP : va_P D vwCl [(o, .inr (0, [.ref q0, .ref q1, .ref q2, .null, .null, .null, .null, .null, .null, .null])), (q0, .inl (c0, 16, .inl (fun _ => 0))), (q1, .inl (c1, 16, .inl (fun _ => nI 0))), (q2, .inl (c2, 16, .inl (fun _ => nI 0)))] H := hP
  have hD : va_D A [(o, .inr (0, [.ref q0, .ref q1, .ref q2, .null, .null, .null, .null, .null, .null, .null])), (q0, .inl (c0, 16, .inl (fun _ => 0))), (q1, .inl (c1, 16, .inl (fun _ => nI 0))), (q2, .inl (c2, 16, .inl (fun _ => nI 0)))] := hD
  refine lv_aload_n hE hB dX0_init_28 rfl (lv_at hl 0 rfl) ?_
  refine lv_bipush (v := nI 16) hE hB dX0_init_29 (by decide) ?_
  refine va_newa (atype := .int) (n := nI 16) (N' := 16) (ty := .int) (a0 := (16, .inl (fun _ => 0))) hE hB (hts _ q63) rfl hK hP hD hS hA (fun _ => rfl) (by decide) (by decide) (by decide) (Nat.le_of_ble_eq_true rfl) (Nat.le_of_ble_eq_true rfl) dX0_init_31 (fun q3 c3 H hK hP hD hS => ?_)
  have hP : va_P D vwCl [(o, .inr (0, [.ref q0, .ref q1, .ref q2, .null, .null, .null, .null, .null, .null, .null])), (q0, .inl (c0, 16, .inl (fun _ => 0))), (q1, .inl (c1, 16, .inl (fun _ => nI 0))), (q2, .inl (c2, 16, .inl (fun _ => nI 0))), (q3, .inl (c3, 16, .inl (fun _ => 0)))] H := hP
  have hD : va_D A [(o, .inr (0, [.ref q0, .ref q1, .ref q2, .null, .null, .null, .null, .null, .null, .null])), (q0, .inl (c0, 16, .inl (fun _ => 0))), (q1, .inl (c1, 16, .inl (fun _ => nI 0))), (q2, .inl (c2, 16, .inl (fun _ => nI 0))), (q3, .inl (c3, 16, .inl (fun _ => 0)))] := hD
  have hK : va_K D vwCl [(c0, .int), (c1, .byte), (c2, .byte), (c3, .int)] s := hK
  refine W.widen (k := 4) (n := 64) (by omega) (by omega) ?_
  refine va_putF (D := D) (ci := 0) (v := .ref q3) (ty := .array .int) (C := RX0) (T := TX0) (N := 10) hE hB hts in_X0 tyX0 tyX0_ok nmX0 hown hK hP hD hS 0 rfl rfl 3 (by decide) (hts _ q35) (fun _ h9 => h9) rfl hin rfl (by decide +kernel) rfl rfl (Nat.le_of_ble_eq_true rfl) dX0_init_33 (fun H locs hP hD hS => ?_)
  have hP : va_P D vwCl [(o, .inr (0, [.ref q0, .ref q1, .ref q2, .ref q3, .null, .null, .null, .null, .null, .null])), (q0, .inl (c0, 16, .inl (fun _ => 0))), (q1, .inl (c1, 16, .inl (fun _ => nI 0))), (q2, .inl (c2, 16, .inl (fun _ => nI 0))), (q3, .inl (c3, 16, .inl (fun _ => 0)))] H := hP
  have hD : va_D A [(o, .inr (0, [.ref q0, .ref q1, .ref q2, .ref q3, .null, .null, .null, .null, .null, .null])), (q0, .inl (c0, 16, .inl (fun _ => 0))), (q1, .inl (c1, 16, .inl (fun _ => nI 0))), (q2, .inl (c2, 16, .inl (fun _ => nI 0))), (q3, .inl (c3, 16, .inl (fun _ => 0)))] := hD
  refine lv_aload_n hE hB dX0_init_36 rfl (lv_at hl 0 rfl) ?_
  refine lv_iconst (v := nI 4) hE hB dX0_init_37 (by decide) ?_
  refine va_newa (atype := .byte) (n := nI 4) (N' := 4) (ty := .byte) (a0 := (4, .inl (fun _ => nI 0))) hE hB (hts _ q64) rfl hK hP hD hS hA (fun _ => rfl) (by decide) (by decide) (by decide) (Nat.le_of_ble_eq_true rfl) (Nat.le_of_ble_eq_true rfl) dX0_init_38 (fun q4 c4 H hK hP hD hS => ?_)
  have hP : va_P D vwCl [(o, .inr (0, [.ref q0, .ref q1, .ref q2, .ref q3, .null, .null, .null, .null, .null, .null])), (q0, .inl (c0, 16, .inl (fun _ => 0))), (q1, .inl (c1, 16, .inl (fun _ => nI 0))), (q2, .inl (c2, 16, .inl (fun _ => nI 0))), (q3, .inl (c3, 16, .inl (fun _ => 0))), (q4, .inl (c4, 4, .inl (fun _ => nI 0)))] H := hP
  have hD : va_D A [(o, .inr (0, [.ref q0, .ref q1, .ref q2, .ref q3, .null, .null, .null, .null, .null, .null])), (q0, .inl (c0, 16, .inl (fun _ => 0))), (q1, .inl (c1, 16, .inl (fun _ => nI 0))), (q2, .inl (c2, 16, .inl (fun _ => nI 0))), (q3, .inl (c3, 16, .inl (fun _ => 0))), (q4, .inl (c4, 4, .inl (fun _ => nI 0)))] := hD
  have hK : va_K D vwCl [(c0, .int), (c1, .byte), (c2, .byte), (c3, .int), (c4, .byte)] s := hK
  refine W.widen (k := 5) (n := 68) (by omega) (by omega) ?_
  refine va_putF (D := D) (ci := 0) (v := .ref q4) (ty := .array .byte) (C := RX0) (T := TX0) (N := 10) hE hB hts in_X0 tyX0 tyX0_ok nmX0 hown hK hP hD hS 0 rfl rfl 4 (by decide) (hts _ q36) (fun _ h9 => h9) rfl hin rfl (by decide +kernel) rfl rfl (Nat.le_of_ble_eq_true rfl) dX0_init_40 (fun H locs hP hD hS => ?_)
  have hP : va_P D vwCl [(o, .inr (0, [.ref q0, .ref q1, .ref q2, .ref q3, .ref q4, .null, .null, .null, .null, .null])), (q0, .inl (c0, 16, .inl (fun _ => 0))), (q1, .inl (c1, 16, .inl (fun _ => nI 0))), (q2, .inl (c2, 16, .inl (fun _ => nI 0))), (q3, .inl (c3, 16, .inl (fun _ => 0))), (q4, .inl (c4, 4, .inl (fun _ => nI 0)))] H := hP
  have hD : va_D A [(o, .inr (0, [.ref q0, .ref q1, .ref q2, .ref q3, .ref q4, .null, .null, .null, .null, .null])), (q0, .inl (c0, 16, .inl (fun _ => 0))), (q1, .inl (c1, 16, .inl (fun _ => nI 0))), (q2, .inl (c2, 16, .inl (fun _ => nI 0))), (q3, .inl (c3, 16, .inl (fun _ => 0))), (q4, .inl (c4, 4, .inl (fun _ => nI 0)))] := hD
  refine lv_aload_n hE hB dX0_init_43 rfl (lv_at hl 0 rfl) ?_
  refine lv_bipush (v := nI 12) hE hB dX0_init_44 (by decide) ?_
  refine va_newa (atype := .int) (n := nI 12) (N' := 12) (ty := .int) (a0 := (12, .inl (fun _ => 0))) hE hB (hts _ q63) rfl hK hP hD hS hA (fun _ => rfl) (by decide) (by decide) (by decide) (Nat.le_of_ble_eq_true rfl) (Nat.le_of_ble_eq_true rfl) dX0_init_46 (fun q5 c5 H hK hP hD hS => ?_)
  have hP : va_P D vwCl [(o, .inr (0, [.ref q0, .ref q1, .ref q2, .ref q3, .ref q4, .null, .null, .null, .null, .null])), (q0, .inl (c0, 16, .inl (fun _ => 0))), (q1, .inl (c1, 16, .inl (fun _ => nI 0))), (q2, .inl (c2, 16, .inl (fun _ => nI 0))), (q3, .inl (c3, 16, .inl (fun _ => 0))), (q4, .inl (c4, 4, .inl (fun _ => nI 0))), (q5, .inl (c5, 12, .inl (fun _ => 0)))] H := hP
  have hD : va_D A [(o, .inr (0, [.ref q0, .ref q1, .ref q2, .ref q3, .ref q4, .null, .null, .null, .null, .null])), (q0, .inl (c0, 16, .inl (fun _ => 0))), (q1, .inl (c1, 16, .inl (fun _ => nI 0))), (q2, .inl (c2, 16, .inl (fun _ => nI 0))), (q3, .inl (c3, 16, .inl (fun _ => 0))), (q4, .inl (c4, 4, .inl (fun _ => nI 0))), (q5, .inl (c5, 12, .inl (fun _ => 0)))] := hD
  have hK : va_K D vwCl [(c0, .int), (c1, .byte), (c2, .byte), (c3, .int), (c4, .byte), (c5, .int)] s := hK
  refine W.widen (k := 6) (n := 80) (by omega) (by omega) ?_
  refine va_putF (D := D) (ci := 0) (v := .ref q5) (ty := .array .int) (C := RX0) (T := TX0) (N := 10) hE hB hts in_X0 tyX0 tyX0_ok nmX0 hown hK hP hD hS 0 rfl rfl 5 (by decide) (hts _ q37) (fun _ h9 => h9) rfl hin rfl (by decide +kernel) rfl rfl (Nat.le_of_ble_eq_true rfl) dX0_init_48 (fun H locs hP hD hS => ?_)
  have hP : va_P D vwCl [(o, .inr (0, [.ref q0, .ref q1, .ref q2, .ref q3, .ref q4, .ref q5, .null, .null, .null, .null])), (q0, .inl (c0, 16, .inl (fun _ => 0))), (q1, .inl (c1, 16, .inl (fun _ => nI 0))), (q2, .inl (c2, 16, .inl (fun _ => nI 0))), (q3, .inl (c3, 16, .inl (fun _ => 0))), (q4, .inl (c4, 4, .inl (fun _ => nI 0))), (q5, .inl (c5, 12, .inl (fun _ => 0)))] H := hP
  have hD : va_D A [(o, .inr (0, [.ref q0, .ref q1, .ref q2, .ref q3, .ref q4, .ref q5, .null, .null, .null, .null])), (q0, .inl (c0, 16, .inl (fun _ => 0))), (q1, .inl (c1, 16, .inl (fun _ => nI 0))), (q2, .inl (c2, 16, .inl (fun _ => nI 0))), (q3, .inl (c3, 16, .inl (fun _ => 0))), (q4, .inl (c4, 4, .inl (fun _ => nI 0))), (q5, .inl (c5, 12, .inl (fun _ => 0)))] := hD
  refine lv_aload_n hE hB dX0_init_51 rfl (lv_at hl 0 rfl) ?_
  refine lv_bipush (v := nI 12) hE hB dX0_init_52 (by decide) ?_
  refine va_newa (atype := .int) (n := nI 12) (N' := 12) (ty := .int) (a0 := (12, .inl (fun _ => 0))) hE hB (hts _ q63) rfl hK hP hD hS hA (fun _ => rfl) (by decide) (by decide) (by decide) (Nat.le_of_ble_eq_true rfl) (Nat.le_of_ble_eq_true rfl) dX0_init_54 (fun q6 c6 H hK hP hD hS => ?_)
  have hP : va_P D vwCl [(o, .inr (0, [.ref q0, .ref q1, .ref q2, .ref q3, .ref q4, .ref q5, .null, .null, .null, .null])), (q0, .inl (c0, 16, .inl (fun _ => 0))), (q1, .inl (c1, 16, .inl (fun _ => nI 0))), (q2, .inl (c2, 16, .inl (fun _ => nI 0))), (q3, .inl (c3, 16, .inl (fun _ => 0))), (q4, .inl (c4, 4, .inl (fun _ => nI 0))), (q5, .inl (c5, 12, .inl (fun _ => 0))), (q6, .inl (c6, 12, .inl (fun _ => 0)))] H := hP
  have hD : va_D A [(o, .inr (0, [.ref q0, .ref q1, .ref q2, .ref q3, .ref q4, .ref q5, .null, .null, .null, .null])), (q0, .inl (c0, 16, .inl (fun _ => 0))), (q1, .inl (c1, 16, .inl (fun _ => nI 0))), (q2, .inl (c2, 16, .inl (fun _ => nI 0))), (q3, .inl (c3, 16, .inl (fun _ => 0))), (q4, .inl (c4, 4, .inl (fun _ => nI 0))), (q5, .inl (c5, 12, .inl (fun _ => 0))), (q6, .inl (c6, 12, .inl (fun _ => 0)))] := hD
  have hK : va_K D vwCl [(c0, .int), (c1, .byte), (c2, .byte), (c3, .int), (c4, .byte), (c5, .int), (c6, .int)] s := hK
  refine W.widen (k := 7) (n := 92) (by omega) (by omega) ?_
  refine va_putF (D := D) (ci := 0) (v := .ref q6) (ty := .array .int) (C := RX0) (T := TX0) (N := 10) hE hB hts in_X0 tyX0 tyX0_ok nmX0 hown hK hP hD hS 0 rfl rfl 6 (by decide) (hts _ q38) (fun _ h9 => h9) rfl hin rfl (by decide +kernel) rfl rfl (Nat.le_of_ble_eq_true rfl) dX0_init_56 (fun H locs hP hD hS => ?_)
  have hP : va_P D vwCl [(o, .inr (0, [.ref q0, .ref q1, .ref q2, .ref q3, .ref q4, .ref q5, .ref q6, .null, .null, .null])), (q0, .inl (c0, 16, .inl (fun _ => 0))), (q1, .inl (c1, 16, .inl (fun _ => nI 0))), (q2, .inl (c2, 16, .inl (fun _ => nI 0))), (q3, .inl (c3, 16, .inl (fun _ => 0))), (q4, .inl (c4, 4, .inl (fun _ => nI 0))), (q5, .inl (c5, 12, .inl (fun _ => 0))), (q6, .inl (c6, 12, .inl (fun _ => 0)))] H := hP
  have hD : va_D A [(o, .inr (0, [.ref q0, .ref q1, .ref q2, .ref q3, .ref q4, .ref q5, .ref q6, .null, .null, .null])), (q0, .inl (c0, 16, .inl (fun _ => 0))), (q1, .inl (c1, 16, .inl (fun _ => nI 0))), (q2, .inl (c2, 16, .inl (fun _ => nI 0))), (q3, .inl (c3, 16, .inl (fun _ => 0))), (q4, .inl (c4, 4, .inl (fun _ => nI 0))), (q5, .inl (c5, 12, .inl (fun _ => 0))), (q6, .inl (c6, 12, .inl (fun _ => 0)))] := hD
  refine lv_aload_n hE hB dX0_init_59 rfl (lv_at hl 0 rfl) ?_
  refine lv_bipush (v := nI 12) hE hB dX0_init_60 (by decide) ?_
  refine va_newa (atype := .byte) (n := nI 12) (N' := 12) (ty := .byte) (a0 := (12, .inl (fun _ => nI 0))) hE hB (hts _ q64) rfl hK hP hD hS hA (fun _ => rfl) (by decide) (by decide) (by decide) (Nat.le_of_ble_eq_true rfl) (Nat.le_of_ble_eq_true rfl) dX0_init_62 (fun q7 c7 H hK hP hD hS => ?_)
  have hP : va_P D vwCl [(o, .inr (0, [.ref q0, .ref q1, .ref q2, .ref q3, .ref q4, .ref q5, .ref q6, .null, .null, .null])), (q0, .inl (c0, 16, .inl (fun _ => 0))), (q1, .inl (c1, 16, .inl (fun _ => nI 0))), (q2, .inl (c2, 16, .inl (fun _ => nI 0))), (q3, .inl (c3, 16, .inl (fun _ => 0))), (q4, .inl (c4, 4, .inl (fun _ => nI 0))), (q5, .inl (c5, 12, .inl (fun _ => 0))), (q6, .inl (c6, 12, .inl (fun _ => 0))), (q7, .inl (c7, 12, .inl (fun _ => nI 0)))] H := hP
  have hD : va_D A [(o, .inr (0, [.ref q0, .ref q1, .ref q2, .ref q3, .ref q4, .ref q5, .ref q6, .null, .null, .null])), (q0, .inl (c0, 16, .inl (fun _ => 0))), (q1, .inl (c1, 16, .inl (fun _ => nI 0))), (q2, .inl (c2, 16, .inl (fun _ => nI 0))), (q3, .inl (c3, 16, .inl (fun _ => 0))), (q4, .inl (c4, 4, .inl (fun _ => nI 0))), (q5, .inl (c5, 12, .inl (fun _ => 0))), (q6, .inl (c6, 12, .inl (fun _ => 0))), (q7, .inl (c7, 12, .inl (fun _ => nI 0)))] := hD
  have hK : va_K D vwCl [(c0, .int), (c1, .byte), (c2, .byte), (c3, .int), (c4, .byte), (c5, .int), (c6, .int), (c7, .byte)] s := hK
  refine W.widen (k := 8) (n := 104) (by omega) (by omega) ?_
  refine va_putF (D := D) (ci := 0) (v := .ref q7) (ty := .array .byte) (C := RX0) (T := TX0) (N := 10) hE hB hts in_X0 tyX0 tyX0_ok nmX0 hown hK hP hD hS 0 rfl rfl 7 (by decide) (hts _ q39) (fun _ h9 => h9) rfl hin rfl (by decide +kernel) rfl rfl (Nat.le_of_ble_eq_true rfl) dX0_init_64 (fun H locs hP hD hS => ?_)
  have hP : va_P D vwCl [(o, .inr (0, [.ref q0, .ref q1, .ref q2, .ref q3, .ref q4, .ref q5, .ref q6, .ref q7, .null, .null])), (q0, .inl (c0, 16, .inl (fun _ => 0))), (q1, .inl (c1, 16, .inl (fun _ => nI 0))), (q2, .inl (c2, 16, .inl (fun _ => nI 0))), (q3, .inl (c3, 16, .inl (fun _ => 0))), (q4, .inl (c4, 4, .inl (fun _ => nI 0))), (q5, .inl (c5, 12, .inl (fun _ => 0))), (q6, .inl (c6, 12, .inl (fun _ => 0))), (q7, .inl (c7, 12, .inl (fun _ => nI 0)))] H := hP
  have hD : va_D A [(o, .inr (0, [.ref q0, .ref q1, .ref q2, .ref q3, .ref q4, .ref q5, .ref q6, .ref q7, .null, .null])), (q0, .inl (c0, 16, .inl (fun _ => 0))), (q1, .inl (c1, 16, .inl (fun _ => nI 0))), (q2, .inl (c2, 16, .inl (fun _ => nI 0))), (q3, .inl (c3, 16, .inl (fun _ => 0))), (q4, .inl (c4, 4, .inl (fun _ => nI 0))), (q5, .inl (c5, 12, .inl (fun _ => 0))), (q6, .inl (c6, 12, .inl (fun _ => 0))), (q7, .inl (c7, 12, .inl (fun _ => nI 0)))] := hD
  refine lv_aload_n hE hB dX0_init_67 rfl (lv_at hl 0 rfl) ?_
  refine lv_sipush (v := nI 192) hE hB dX0_init_68 (by decide) ?_
  refine va_newa (atype := .byte) (n := nI 192) (N' := 192) (ty := .byte) (a0 := (192, .inl (fun _ => nI 0))) hE hB (hts _ q64) rfl hK hP hD hS hA (fun _ => rfl) (by decide) (by decide) (by decide) (Nat.le_of_ble_eq_true rfl) (Nat.le_of_ble_eq_true rfl) dX0_init_71 (fun q8 c8 H hK hP hD hS => ?_)
  have hP : va_P D vwCl [(o, .inr (0, [.ref q0, .ref q1, .ref q2, .ref q3, .ref q4, .ref q5, .ref q6, .ref q7, .null, .null])), (q0, .inl (c0, 16, .inl (fun _ => 0))), (q1, .inl (c1, 16, .inl (fun _ => nI 0))), (q2, .inl (c2, 16, .inl (fun _ => nI 0))), (q3, .inl (c3, 16, .inl (fun _ => 0))), (q4, .inl (c4, 4, .inl (fun _ => nI 0))), (q5, .inl (c5, 12, .inl (fun _ => 0))), (q6, .inl (c6, 12, .inl (fun _ => 0))), (q7, .inl (c7, 12, .inl (fun _ => nI 0))), (q8, .inl (c8, 192, .inl (fun _ => nI 0)))] H := hP
  have hD : va_D A [(o, .inr (0, [.ref q0, .ref q1, .ref q2, .ref q3, .ref q4, .ref q5, .ref q6, .ref q7, .null, .null])), (q0, .inl (c0, 16, .inl (fun _ => 0))), (q1, .inl (c1, 16, .inl (fun _ => nI 0))), (q2, .inl (c2, 16, .inl (fun _ => nI 0))), (q3, .inl (c3, 16, .inl (fun _ => 0))), (q4, .inl (c4, 4, .inl (fun _ => nI 0))), (q5, .inl (c5, 12, .inl (fun _ => 0))), (q6, .inl (c6, 12, .inl (fun _ => 0))), (q7, .inl (c7, 12, .inl (fun _ => nI 0))), (q8, .inl (c8, 192, .inl (fun _ => nI 0)))] := hD
  have hK : va_K D vwCl [(c0, .int), (c1, .byte), (c2, .byte), (c3, .int), (c4, .byte), (c5, .int), (c6, .int), (c7, .byte), (c8, .byte)] s := hK
  refine W.widen (k := 9) (n := 296) (by omega) (by omega) ?_
  refine va_putF (D := D) (ci := 0) (v := .ref q8) (ty := .array .byte) (C := RX0) (T := TX0) (N := 10) hE hB hts in_X0 tyX0 tyX0_ok nmX0 hown hK hP hD hS 0 rfl rfl 8 (by decide) (hts _ q40) (fun _ h9 => h9) rfl hin rfl (by decide +kernel) rfl rfl (Nat.le_of_ble_eq_true rfl) dX0_init_73 (fun H locs hP hD hS => ?_)
  have hP : va_P D vwCl [(o, .inr (0, [.ref q0, .ref q1, .ref q2, .ref q3, .ref q4, .ref q5, .ref q6, .ref q7, .ref q8, .null])), (q0, .inl (c0, 16, .inl (fun _ => 0))), (q1, .inl (c1, 16, .inl (fun _ => nI 0))), (q2, .inl (c2, 16, .inl (fun _ => nI 0))), (q3, .inl (c3, 16, .inl (fun _ => 0))), (q4, .inl (c4, 4, .inl (fun _ => nI 0))), (q5, .inl (c5, 12, .inl (fun _ => 0))), (q6, .inl (c6, 12, .inl (fun _ => 0))), (q7, .inl (c7, 12, .inl (fun _ => nI 0))), (q8, .inl (c8, 192, .inl (fun _ => nI 0)))] H := hP
  have hD : va_D A [(o, .inr (0, [.ref q0, .ref q1, .ref q2, .ref q3, .ref q4, .ref q5, .ref q6, .ref q7, .ref q8, .null])), (q0, .inl (c0, 16, .inl (fun _ => 0))), (q1, .inl (c1, 16, .inl (fun _ => nI 0))), (q2, .inl (c2, 16, .inl (fun _ => nI 0))), (q3, .inl (c3, 16, .inl (fun _ => 0))), (q4, .inl (c4, 4, .inl (fun _ => nI 0))), (q5, .inl (c5, 12, .inl (fun _ => 0))), (q6, .inl (c6, 12, .inl (fun _ => 0))), (q7, .inl (c7, 12, .inl (fun _ => nI 0))), (q8, .inl (c8, 192, .inl (fun _ => nI 0)))] := hD
  refine lv_aload_n hE hB dX0_init_76 rfl (lv_at hl 0 rfl) ?_
  refine lv_sipush (v := nI 192) hE hB dX0_init_77 (by decide) ?_
  refine va_newa (atype := .int) (n := nI 192) (N' := 192) (ty := .int) (a0 := (192, .inl (fun _ => 0))) hE hB (hts _ q63) rfl hK hP hD hS hA (fun _ => rfl) (by decide) (by decide) (by decide) (Nat.le_of_ble_eq_true rfl) (Nat.le_of_ble_eq_true rfl) dX0_init_80 (fun q9 c9 H hK hP hD hS => ?_)
  have hP : va_P D vwCl [(o, .inr (0, [.ref q0, .ref q1, .ref q2, .ref q3, .ref q4, .ref q5, .ref q6, .ref q7, .ref q8, .null])), (q0, .inl (c0, 16, .inl (fun _ => 0))), (q1, .inl (c1, 16, .inl (fun _ => nI 0))), (q2, .inl (c2, 16, .inl (fun _ => nI 0))), (q3, .inl (c3, 16, .inl (fun _ => 0))), (q4, .inl (c4, 4, .inl (fun _ => nI 0))), (q5, .inl (c5, 12, .inl (fun _ => 0))), (q6, .inl (c6, 12, .inl (fun _ => 0))), (q7, .inl (c7, 12, .inl (fun _ => nI 0))), (q8, .inl (c8, 192, .inl (fun _ => nI 0))), (q9, .inl (c9, 192, .inl (fun _ => 0)))] H := hP
  have hD : va_D A [(o, .inr (0, [.ref q0, .ref q1, .ref q2, .ref q3, .ref q4, .ref q5, .ref q6, .ref q7, .ref q8, .null])), (q0, .inl (c0, 16, .inl (fun _ => 0))), (q1, .inl (c1, 16, .inl (fun _ => nI 0))), (q2, .inl (c2, 16, .inl (fun _ => nI 0))), (q3, .inl (c3, 16, .inl (fun _ => 0))), (q4, .inl (c4, 4, .inl (fun _ => nI 0))), (q5, .inl (c5, 12, .inl (fun _ => 0))), (q6, .inl (c6, 12, .inl (fun _ => 0))), (q7, .inl (c7, 12, .inl (fun _ => nI 0))), (q8, .inl (c8, 192, .inl (fun _ => nI 0))), (q9, .inl (c9, 192, .inl (fun _ => 0)))] := hD
  have hK : va_K D vwCl [(c0, .int), (c1, .byte), (c2, .byte), (c3, .int), (c4, .byte), (c5, .int), (c6, .int), (c7, .byte), (c8, .byte), (c9, .int)] s := hK
  refine W.widen (k := 10) (n := 488) (by omega) (by omega) ?_
  refine va_putF (D := D) (ci := 0) (v := .ref q9) (ty := .array .int) (C := RX0) (T := TX0) (N := 10) hE hB hts in_X0 tyX0 tyX0_ok nmX0 hown hK hP hD hS 0 rfl rfl 9 (by decide) (hts _ q41) (fun _ h9 => h9) rfl hin rfl (by decide +kernel) rfl rfl (Nat.le_of_ble_eq_true rfl) dX0_init_82 (fun H locs hP hD hS => ?_)
  have hP : va_P D vwCl [(o, .inr (0, [.ref q0, .ref q1, .ref q2, .ref q3, .ref q4, .ref q5, .ref q6, .ref q7, .ref q8, .ref q9])), (q0, .inl (c0, 16, .inl (fun _ => 0))), (q1, .inl (c1, 16, .inl (fun _ => nI 0))), (q2, .inl (c2, 16, .inl (fun _ => nI 0))), (q3, .inl (c3, 16, .inl (fun _ => 0))), (q4, .inl (c4, 4, .inl (fun _ => nI 0))), (q5, .inl (c5, 12, .inl (fun _ => 0))), (q6, .inl (c6, 12, .inl (fun _ => 0))), (q7, .inl (c7, 12, .inl (fun _ => nI 0))), (q8, .inl (c8, 192, .inl (fun _ => nI 0))), (q9, .inl (c9, 192, .inl (fun _ => 0)))] H := hP
  have hD : va_D A [(o, .inr (0, [.ref q0, .ref q1, .ref q2, .ref q3, .ref q4, .ref q5, .ref q6, .ref q7, .ref q8, .ref q9])), (q0, .inl (c0, 16, .inl (fun _ => 0))), (q1, .inl (c1, 16, .inl (fun _ => nI 0))), (q2, .inl (c2, 16, .inl (fun _ => nI 0))), (q3, .inl (c3, 16, .inl (fun _ => 0))), (q4, .inl (c4, 4, .inl (fun _ => nI 0))), (q5, .inl (c5, 12, .inl (fun _ => 0))), (q6, .inl (c6, 12, .inl (fun _ => 0))), (q7, .inl (c7, 12, .inl (fun _ => nI 0))), (q8, .inl (c8, 192, .inl (fun _ => nI 0))), (q9, .inl (c9, 192, .inl (fun _ => 0)))] := hD
  exact W.vret hE hB hr (fun t ht hW => ⟨⟨((fun k => match k with | 0 => q0 | 1 => q1 | 2 => q2 | 3 => q3 | 4 => q4 | 5 => q5 | 6 => q6 | 7 => q7 | 8 => q8 | _ => q9), (fun k => match k with | 0 => c0 | 1 => c1 | 2 => c2 | 3 => c3 | 4 => c4 | 5 => c5 | 6 => c6 | 7 => c7 | 8 => c8 | _ => c9)), rfl, trivial, by rw [ht]; exact hP, va_K.moved hW.alike hK, hD⟩, hS.F ht⟩) hS.2.2 dX0_init_85
abbrev rmIX1 : Room := { frames := 1, cells := 5, slots := 308, locals := 30 }
set_option maxHeartbeats 4000000 in
set_option maxRecDepth 100000 in
theorem met_X1_init {l : Launch} {D : va_G} {o : Nat} (sz : Nat) : Met l yX1_init (ws_ yX1_init cX1_init 1 none) rmIX1 (va_Pc [.ref o] (gPre D [] [(o, .inr (1, [.null, .null, .null, .null, .null]))] sz)) (va_Qv (fun (_ : (Nat → Nat) × (Nat → ClassId)) => True) (fun u t => va_P D vwCl (wM o u.1 u.2 M0) t.heap ∧ va_K D vwCl (tysM u.2) t ∧ va_D (va_A [(o, .inr (1, [.null, .null, .null, .null, .null]))] sz) (wM o u.1 u.2 M0)) (va_A [(o, .inr (1, [.null, .null, .null, .null, .null]))] sz)) 5 308 (va_A [(o, .inr (1, [.null, .null, .null, .null, .null]))] sz) := by
  refine Met.ofW (cc := cX1_init) (maxL := 1) (ret := none) (by decide) rfl ?_
  intro p e s m args below meth c s₁ B hml hv
  obtain ⟨rfl, hsz, hP, hK, hD0⟩ := hv
  have hE := B.exec
  have hB := B.bytes
  have hr := B.returns
  have hts := atoms_spec (ws := ws_ yX1_init cX1_init 1 none) B.pre
  have hts : ∀ w ∈ lw_all, w.before _ s = true := fun w h => hts w (List.mem_cons_of_mem _ h)
  have hown : s.vm.findClass RX1 = some m.cls := findClass_of_methodNamed B.named
  have hlocks := B.notSynchronized
  have hin : meth.name = "<init>" := (name_of_methodNamed B.named B.method).1
  subst hsz
  have hD := hD0.self (sz := s.heap.size)
  generalize hAe : va_A [(o, .inr (1, [.null, .null, .null, .null, .null]))] s.heap.size = A at hD ⊢
  have hA : ∀ q : Nat, s.heap.size ≤ q → A q := fun q h => by rw [← hAe]; exact Or.inr h
  have hS : va_S A s.heap s.heap [] := va_S.rf
  have hl := lv_entry ([.ref o]) (n := 1) (Nat.le_of_ble_eq_true rfl)
  rw [lg_entry_eq]
  generalize (lg_sl ([.ref o]) ++ List.replicate (1 - (lg_sl ([.ref o])).length) Slot.unset).toArray = ls at hl ⊢
  have hl : lv_has ls 1 [(0, .ref o)] := hl
  refine lv_aload_n hE hB dX1_init_0 rfl (lv_at hl 0 rfl) ?_
  refine W.objInit hE hB hown (hts _ q195) (hts _ q30) (hts _ q31) rfl (by rw [hml]; exact hl.1) rfl dX1_init_1 (Nat.le_of_ble_eq_true rfl) (Nat.le_of_ble_eq_true rfl) ?_
  refine W.eq (g2 := F0 m 4 ls []) rfl ?_
  refine lv_aload_n hE hB dX1_init_4 rfl (lv_at hl 0 rfl) ?_
  refine lv_bipush (v := nI 16) hE hB dX1_init_5 (by decide) ?_
  refine va_newa (atype := .int) (n := nI 16) (N' := 16) (ty := .int) (a0 := (16, .inl (fun _ => 0))) hE hB (hts _ q63) rfl hK hP hD hS hA (fun _ => rfl) (by decide) (by decide) (by decide) (Nat.le_of_ble_eq_true rfl) (Nat.le_of_ble_eq_true rfl) dX1_init_7 (fun q0 c0 H hK hP hD hS => ?_)
  have hP : va_P D vwCl [(o, .inr (1, [.null, .null, .null, .null, .null])), (q0, .inl (c0, 16, .inl (fun _ => 0)))] H := hP
  have hD : va_D A [(o, .inr (1, [.null, .null, .null, .null, .null])), (q0, .inl (c0, 16, .inl (fun _ => 0)))] := hD
  have hK : va_K D vwCl [(c0, .int)] s := hK
  refine W.widen (k := 1) (n := 16) (by omega) (by omega) ?_
  refine va_put (D := D) (ci := 1) (v := .ref q0) (ty := .array .int) (C := RX1) (T := TX1) (N := 5) hE hB hts in_X1 tyX1 tyX1_ok nmX1 hown hK hP hD hS 0 rfl rfl 0 (by decide) (hts _ q196) (fun _ h9 => h9) rfl (by decide +kernel) rfl rfl (Nat.le_of_ble_eq_true rfl) dX1_init_9 (fun H locs hP hD hS => ?_)
  have hP : va_P D vwCl [(o, .inr (1, [.ref q0, .null, .null, .null, .null])), (q0, .inl (c0, 16, .inl (fun _ => 0)))] H := hP
  have hD : va_D A [(o, .inr (1, [.ref q0, .null, .null, .null, .null])), (q0, .inl (c0, 16, .inl (fun _ => 0)))] := hD
  refine lv_aload_n hE hB dX1_init_12 rfl (lv_at hl 0 rfl) ?_
  refine lv_iconst (v := nI 4) hE hB dX1_init_13 (by decide) ?_
  refine va_newa (atype := .int) (n := nI 4) (N' := 4) (ty := .int) (a0 := (4, .inl (fun _ => nI 0))) hE hB (hts _ q63) rfl hK hP hD hS hA (fun _ => rfl) (by decide) (by decide) (by decide) (Nat.le_of_ble_eq_true rfl) (Nat.le_of_ble_eq_true rfl) dX1_init_14 (fun q1 c1 H hK hP hD hS => ?_)
  have hP : va_P D vwCl [(o, .inr (1, [.ref q0, .null, .null, .null, .null])), (q0, .inl (c0, 16, .inl (fun _ => 0))), (q1, .inl (c1, 4, .inl (fun _ => nI 0)))] H := hP
  have hD : va_D A [(o, .inr (1, [.ref q0, .null, .null, .null, .null])), (q0, .inl (c0, 16, .inl (fun _ => 0))), (q1, .inl (c1, 4, .inl (fun _ => nI 0)))] := hD
  have hK : va_K D vwCl [(c0, .int), (c1, .int)] s := hK
  refine W.widen (k := 2) (n := 20) (by omega) (by omega) ?_
  refine va_put (D := D) (ci := 1) (v := .ref q1) (ty := .array .int) (C := RX1) (T := TX1) (N := 5) hE hB hts in_X1 tyX1 tyX1_ok nmX1 hown hK hP hD hS 0 rfl rfl 1 (by decide) (hts _ q197) (fun _ h9 => h9) rfl (by decide +kernel) rfl rfl (Nat.le_of_ble_eq_true rfl) dX1_init_16 (fun H locs hP hD hS => ?_)
  have hP : va_P D vwCl [(o, .inr (1, [.ref q0, .ref q1, .null, .null, .null])), (q0, .inl (c0, 16, .inl (fun _ => 0))), (q1, .inl (c1, 4, .inl (fun _ => nI 0)))] H := hP
  have hD : va_D A [(o, .inr (1, [.ref q0, .ref q1, .null, .null, .null])), (q0, .inl (c0, 16, .inl (fun _ => 0))), (q1, .inl (c1, 4, .inl (fun _ => nI 0)))] := hD
  refine lv_aload_n hE hB dX1_init_19 rfl (lv_at hl 0 rfl) ?_
  refine lv_bipush (v := nI 16) hE hB dX1_init_20 (by decide) ?_
  refine va_newa (atype := .int) (n := nI 16) (N' := 16) (ty := .int) (a0 := (16, .inl (fun _ => 0))) hE hB (hts _ q63) rfl hK hP hD hS hA (fun _ => rfl) (by decide) (by decide) (by decide) (Nat.le_of_ble_eq_true rfl) (Nat.le_of_ble_eq_true rfl) dX1_init_22 (fun q2 c2 H hK hP hD hS => ?_)
  have hP : va_P D vwCl [(o, .inr (1, [.ref q0, .ref q1, .null, .null, .null])), (q0, .inl (c0, 16, .inl (fun _ => 0))), (q1, .inl (c1, 4, .inl (fun _ => nI 0))), (q2, .inl (c2, 16, .inl (fun _ => 0)))] H := hP
  have hD : va_D A [(o, .inr (1, [.ref q0, .ref q1, .null, .null, .null])), (q0, .inl (c0, 16, .inl (fun _ => 0))), (q1, .inl (c1, 4, .inl (fun _ => nI 0))), (q2, .inl (c2, 16, .inl (fun _ => 0)))] := hD
  have hK : va_K D vwCl [(c0, .int), (c1, .int), (c2, .int)] s := hK
  refine W.widen (k := 3) (n := 36) (by omega) (by omega) ?_
  refine va_put (D := D) (ci := 1) (v := .ref q2) (ty := .array .int) (C := RX1) (T := TX1) (N := 5) hE hB hts in_X1 tyX1 tyX1_ok nmX1 hown hK hP hD hS 0 rfl rfl 2 (by decide) (hts _ q198) (fun _ h9 => h9) rfl (by decide +kernel) rfl rfl (Nat.le_of_ble_eq_true rfl) dX1_init_24 (fun H locs hP hD hS => ?_)
  have hP : va_P D vwCl [(o, .inr (1, [.ref q0, .ref q1, .ref q2, .null, .null])), (q0, .inl (c0, 16, .inl (fun _ => 0))), (q1, .inl (c1, 4, .inl (fun _ => nI 0))), (q2, .inl (c2, 16, .inl (fun _ => 0)))] H := hP
  have hD : va_D A [(o, .inr (1, [.ref q0, .ref q1, .ref q2, .null, .null])), (q0, .inl (c0, 16, .inl (fun _ => 0))), (q1, .inl (c1, 4, .inl (fun _ => nI 0))), (q2, .inl (c2, 16, .inl (fun _ => 0)))] := hD
  refine lv_aload_n hE hB dX1_init_27 rfl (lv_at hl 0 rfl) ?_
  refine lv_bipush (v := nI 16) hE hB dX1_init_28 (by decide) ?_
  refine va_newa (atype := .int) (n := nI 16) (N' := 16) (ty := .int) (a0 := (16, .inl (fun _ => 0))) hE hB (hts _ q63) rfl hK hP hD hS hA (fun _ => rfl) (by decide) (by decide) (by decide) (Nat.le_of_ble_eq_true rfl) (Nat.le_of_ble_eq_true rfl) dX1_init_30 (fun q3 c3 H hK hP hD hS => ?_)
  have hP : va_P D vwCl [(o, .inr (1, [.ref q0, .ref q1, .ref q2, .null, .null])), (q0, .inl (c0, 16, .inl (fun _ => 0))), (q1, .inl (c1, 4, .inl (fun _ => nI 0))), (q2, .inl (c2, 16, .inl (fun _ => 0))), (q3, .inl (c3, 16, .inl (fun _ => 0)))] H := hP
  have hD : va_D A [(o, .inr (1, [.ref q0, .ref q1, .ref q2, .null, .null])), (q0, .inl (c0, 16, .inl (fun _ => 0))), (q1, .inl (c1, 4, .inl (fun _ => nI 0))), (q2, .inl (c2, 16, .inl (fun _ => 0))), (q3, .inl (c3, 16, .inl (fun _ => 0)))] := hD
  have hK : va_K D vwCl [(c0, .int), (c1, .int), (c2, .int), (c3, .int)] s := hK
  refine W.widen (k := 4) (n := 52) (by omega) (by omega) ?_
  refine va_put (D := D) (ci := 1) (v := .ref q3) (ty := .array .int) (C := RX1) (T := TX1) (N := 5) hE hB hts in_X1 tyX1 tyX1_ok nmX1 hown hK hP hD hS 0 rfl rfl 3 (by decide) (hts _ q199) (fun _ h9 => h9) rfl (by decide +kernel) rfl rfl (Nat.le_of_ble_eq_true rfl) dX1_init_32 (fun H locs hP hD hS => ?_)
  have hP : va_P D vwCl [(o, .inr (1, [.ref q0, .ref q1, .ref q2, .ref q3, .null])), (q0, .inl (c0, 16, .inl (fun _ => 0))), (q1, .inl (c1, 4, .inl (fun _ => nI 0))), (q2, .inl (c2, 16, .inl (fun _ => 0))), (q3, .inl (c3, 16, .inl (fun _ => 0)))] H := hP
  have hD : va_D A [(o, .inr (1, [.ref q0, .ref q1, .ref q2, .ref q3, .null])), (q0, .inl (c0, 16, .inl (fun _ => 0))), (q1, .inl (c1, 4, .inl (fun _ => nI 0))), (q2, .inl (c2, 16, .inl (fun _ => 0))), (q3, .inl (c3, 16, .inl (fun _ => 0)))] := hD
  refine lv_aload_n hE hB dX1_init_35 rfl (lv_at hl 0 rfl) ?_
  refine lv_sipush (v := nI 256) hE hB dX1_init_36 (by decide) ?_
  refine va_newa (atype := .int) (n := nI 256) (N' := 256) (ty := .int) (a0 := (256, .inl (fun _ => 0))) hE hB (hts _ q63) rfl hK hP hD hS hA (fun _ => rfl) (by decide) (by decide) (by decide) (Nat.le_of_ble_eq_true rfl) (Nat.le_of_ble_eq_true rfl) dX1_init_39 (fun q4 c4 H hK hP hD hS => ?_)
  have hP : va_P D vwCl [(o, .inr (1, [.ref q0, .ref q1, .ref q2, .ref q3, .null])), (q0, .inl (c0, 16, .inl (fun _ => 0))), (q1, .inl (c1, 4, .inl (fun _ => nI 0))), (q2, .inl (c2, 16, .inl (fun _ => 0))), (q3, .inl (c3, 16, .inl (fun _ => 0))), (q4, .inl (c4, 256, .inl (fun _ => 0)))] H := hP
  have hD : va_D A [(o, .inr (1, [.ref q0, .ref q1, .ref q2, .ref q3, .null])), (q0, .inl (c0, 16, .inl (fun _ => 0))), (q1, .inl (c1, 4, .inl (fun _ => nI 0))), (q2, .inl (c2, 16, .inl (fun _ => 0))), (q3, .inl (c3, 16, .inl (fun _ => 0))), (q4, .inl (c4, 256, .inl (fun _ => 0)))] := hD
  have hK : va_K D vwCl [(c0, .int), (c1, .int), (c2, .int), (c3, .int), (c4, .int)] s := hK
  refine W.widen (k := 5) (n := 308) (by omega) (by omega) ?_
  refine va_put (D := D) (ci := 1) (v := .ref q4) (ty := .array .int) (C := RX1) (T := TX1) (N := 5) hE hB hts in_X1 tyX1 tyX1_ok nmX1 hown hK hP hD hS 0 rfl rfl 4 (by decide) (hts _ q200) (fun _ h9 => h9) rfl (by decide +kernel) rfl rfl (Nat.le_of_ble_eq_true rfl) dX1_init_41 (fun H locs hP hD hS => ?_)
  have hP : va_P D vwCl [(o, .inr (1, [.ref q0, .ref q1, .ref q2, .ref q3, .ref q4])), (q0, .inl (c0, 16, .inl (fun _ => 0))), (q1, .inl (c1, 4, .inl (fun _ => nI 0))), (q2, .inl (c2, 16, .inl (fun _ => 0))), (q3, .inl (c3, 16, .inl (fun _ => 0))), (q4, .inl (c4, 256, .inl (fun _ => 0)))] H := hP
  have hD : va_D A [(o, .inr (1, [.ref q0, .ref q1, .ref q2, .ref q3, .ref q4])), (q0, .inl (c0, 16, .inl (fun _ => 0))), (q1, .inl (c1, 4, .inl (fun _ => nI 0))), (q2, .inl (c2, 16, .inl (fun _ => 0))), (q3, .inl (c3, 16, .inl (fun _ => 0))), (q4, .inl (c4, 256, .inl (fun _ => 0)))] := hD
  exact W.vret hE hB hr (fun t ht hW => ⟨⟨((fun k => match k with | 0 => q0 | 1 => q1 | 2 => q2 | 3 => q3 | _ => q4), (fun k => match k with | 0 => c0 | 1 => c1 | 2 => c2 | 3 => c3 | _ => c4)), rfl, trivial, by rw [ht]; exact hP, va_K.moved hW.alike hK, hD⟩, hS.F ht⟩) hS.2.2 dX1_init_44
end
section
/-! THE CLAIM OUT OF ONE WALK OF THE LAW'S BODY. Your part is whole_start (and what it stands on); all else here is the same for every law, but numbers. -/
def R_law : String := "TransactionCachesLaw"
def lw_P (b : Addr) (xs : List Int32) (args : Array Value) (s : State) : Prop := args = #[.ref b] ∧ s.IntsAt b xs ∧ xs.length ≤ 256 ∧ (Jvm.Cond.and given_1 narrow_1).before args s = true
def lw_Q (_ : Array Value) (s : State) (o : Outcome) (t : State) : Prop := o = .returned (some (.int 1)) ∧ Framed s o t [] 600000 7290000
def lw_Z (below : List Frame) (a : Array Value) (s : State) : State → Prop := fun t => ∃ o, t.status = .running ∧ Ended t below o ∧ lw_Q a s o t
/-- the law's own end, with 1 on the stack, nothing written that was there before, its room as the claim has it -/
theorem lw_ret {p : Program} {l : Launch} {e : Env} {s : State} {m : MethodId} {below : List Frame} {meth : Method} {c : Code} {b : Nat} (hx : p.tables.exec = Jvm.exec) (hb : c.code = code) (hr : meth.sig.returnType = ret) (hlocks : meth.locks = false) {pc : Nat} {H : Heap} {ls : Array Slot} (hdg : decode code pc = .ok (.ireturn, 1)) : W p l e room_1 s m #[Value.ref b] below meth c H [] 600000 7290000 (lw_Z below #[Value.ref b] s) (F0 m pc ls [.int 1]) := by
  intro T hT X
  obtain ⟨fs, hret, hrun, hended, hW, hframe⟩ := X.leave (v := some (.int 1)) (hlocks := hlocks) (fun h => by rw [hr] at h; cases h)
  have hmeth' : T.vm.method? m = some meth := X.method'
  refine ⟨T.setFrames fs, ?_, .returned (some (.int 1)), hrun, hended, rfl, ⟨_, rfl⟩, hW, hframe⟩
  jvm_step X.here [X.here.top, hx, hb, hdg, hmeth', hr, ret, narrow_b1]
  (try refine ⟨rfl, ?_⟩); (try refine ⟨rfl, ?_⟩)
  first | (intro acts; rw [hret _ acts rfl rfl rfl]) | rw [hret _ _ rfl rfl rfl]
  exact Steps.refl _
/-- what holds at the law's entry: the machine, the code, the tables' words (any of lw_tbl by 'hts w (by decide +kernel)'), the script of L ints xs at the cell b, what the Statement gives of the start (any of its parts by flat_of_before) -/
def lw_At (p : Program) (s : State) (m : MethodId) (meth : Method) (c : Code) (b L : Nat) (xs : Nat → Int32) : Prop :=
  p.tables.exec = Jvm.exec ∧ c.code = code ∧ meth.sig.returnType = ret ∧ c.maxLocals = 4 ∧ s.vm.findClass R_law = some m.cls ∧ (∀ w ∈ lw_tbl, w.before #[Value.ref b] s = true) ∧ va_X b L xs s s.heap ∧ b < s.heap.size ∧ meth.locks = false ∧ (Jvm.Cond.and given_1 narrow_1).before #[Value.ref b] s = true

/-! the law: rows of its own -/
section LAWR
variable {p : Program} {l : Launch} {e : Env} {R : Room} {s : State} {m : MethodId} {args : Array Value} {below : List Frame} {meth : Method} {c : Code} {H : Heap} {locs : List Loc} {cells slots : Nat} {Q : State → Prop}
variable {cc : ByteArray} {pc : Nat} {ls : Array Slot} {rest : List Value} {own : String} {tys : List (ClassId × FieldType)} {D : va_G} {A : Nat → Prop} {nL : Nat} {ws : va_W} {r : Int32} {H0 : Heap}
theorem s_ld {b L k : Nat} {xs : Nat → Int32} (hE : p.tables.exec = Jvm.exec) (hB : c.code = cc) (hX : va_X b L xs s H0) (hbl : b < H0.size) (hbA : ¬ A b) (hS : va_S A H0 H locs) (hk : k < L) (hL : L ≤ 256) (hdg : decode cc pc = .ok (.iaload, 1)) (kk : W p l e R s m args below meth c H locs cells slots Q (F0 m (pc + 1) ls (.int (xs k) :: rest))) : W p l e R s m args below meth c H locs cells slots Q (F0 m pc ls (.int (nI k) :: .ref b :: rest)) := by
  refine va_sld hE hB hX hbl hbA hS (vp_in_nI hk (by omega)) hdg ?_
  rw [nI_clamp (by omega)]
  exact kk
/-- a call from a wider world: the callee's cells by their places, the rest unchanged -/
theorem g_calliL (K : GC own tys D A p s m args c cc nL) (hI : GI D A s.heap ws H locs) {y : MethodName} {code : ByteArray} {L idx n o ci q0 : Nat} {rt : FieldType} {rm : Room} {C : String} {As st0 : List Value} {kq : vw_C} {fs : List Value} {wc wr w1 : va_W} {tysC : List (ClassId × FieldType)} (isC isR isK : List Nat)
    (hM : GMi l y (ws_ y code L (some rt)) rm D tysC wc (.ref o :: As) w1 r) (hC : isC.map (fun i => ws[i]?) = wc.map some) (hRs : isR.map (fun i => ws[i]?) = wr.map some) (hPs : isC.filterMap (fun i => ws[i]?) = wc) (hKs : isK.filterMap (fun i => tys[i]?) = tysC) (hnd : va_nd isR = true) (hndC : va_nd isC = true) (hdis : ∀ i ∈ isR, i ∉ isC)
    (hG : GoodIn lw_all (wsV own idx C y (ws_ y code L (some rt))))
    (hd : y.cls = C ∧ y.cls ≠ "java/lang/invoke/MethodHandle" ∧ y.cls ≠ "java/lang/invoke/VarHandle" ∧ (parseMethodDescriptor y.desc).map (fun d => d.parameters.length) = some n)
    (hrm : rm.cells = 0 ∧ rm.slots = 0) (hc : vwCl[ci]? = some kq) (hkC : kq.1 = C) (he : wc[q0]? = some (o, .inr (ci, fs))) (hn : As.length = n) (hst : st0 = As.reverse ++ .ref o :: rest) (hls : ls.size = nL)
    (hR : rm.frames + 1 ≤ R.frames ∧ 8 + (L + 11) + rm.locals ≤ R.locals) (hroom : (rest.map fun v => v.category).sum ≤ 8) (hf : cells ≤ R.cells ∧ slots ≤ R.slots) (hdg : decode cc pc = .ok (.invokevirtual idx, 3))
    (kk : ∀ (H : Heap) (locs : List Loc), GI D A s.heap (wr ++ w1) H locs → W p l e R s m args below meth c H locs cells slots Q (F0 m (pc + 3) ls (.int r :: rest))) : W p l e R s m args below meth c H locs cells slots Q (F0 m pc ls st0) := by
  obtain ⟨hE, hB, hml, hown, hts, hK, hA⟩ := K
  obtain ⟨hP, hD, hS⟩ := hI
  have hPc := hP.sub (ws' := wc) isC hPs
  have hDc := hD.sub (ws' := wc) isC hndC hC
  have hKc := hK.sub (tys' := tysC) isK hKs
  have hFc := va_free (wc := wc) hD hS hA isC hC
  subst hkC
  refine va_calli (va_runV (As := As) (rest := rest) ⟨hE, hB, hml, hown, hts⟩ (hM H.size) (cwV n hts hG rfl hrm.1 hrm.2 hd hR) ⟨fun a U g mk q => by obtain ⟨q0, q1, qP, qK, qD⟩ := q; exact ⟨q0, q1, qP, va_K.moved (u := U) (U := U.calling g mk a) (Vm.Alike.refl U.vm) qK, qD⟩, va_recv hKc hPc hc he, fun U hU hW => ⟨rfl, by rw [hU], by rw [hU]; exact hPc, va_K.moved hW.alike hKc, hDc.weaken (fun _ _ _ _ => trivial)⟩⟩ rfl hn hls hst (lv_room hroom) hdg hf) hS (fun q _ h => hFc q h) hFc (fun v1 u t H1 locs ht hvm hw hB1 hz1 hk1 hS => ?_)
  obtain ⟨hP1, hK1, hD1⟩ := hB1
  rw [ht] at hP1
  have hw2 : v1 = r := hw
  subst hw2
  obtain ⟨hP2, hD2⟩ := va_join (wr := wr) (w1 := w1) hP hD isC isR hC hRs hnd hdis hk1 hFc hP1 hD1
  exact kk H1 locs ⟨hP2, hD2, hS⟩
end LAWR
theorem law_le {i L : Nat} (hL : L ≤ 256) (hi : i ≤ L) (h : ¬ nI L - nI 4 < nI i) : i + 4 ≤ L := by
  rw [Int32.lt_iff_toInt_lt, pk_sub_toInt (by omega) (by omega), nI_toInt (by omega)] at h
  omega
set_option maxHeartbeats 4000000 in
set_option maxRecDepth 100000 in
theorem lop_begin {p : Program} {l : Launch} {e : Env} {s : State} {m : MethodId} {below : List Frame} {meth : Method} {cd : Code} {D : va_G} {b L : Nat} {xs : Nat → Int32} {o o2 : Nat} {a a2 : Nat → Nat} {d d2 : Nat → ClassId} {i : Nat} {C : CS} {T : TS} {M : MS} {H : Heap} {locs : List Loc} {ls : Array Slot} (hL : L ≤ 256) (K : GC R_law (tysX d ++ tysM d2) D (fun q : Nat => s.heap.size ≤ q) p s m #[Value.ref b] cd code 4) (hX : va_X b L xs s s.heap) (hbl : b < s.heap.size) (hi : i + 4 ≤ L) (hRl : Rel C T M) (hI : GI D (fun q : Nat => s.heap.size ≤ q) s.heap (wX o a d C T ++ wM o2 a2 d2 M) H locs) (hl : lv_has ls 4 [(0, .ref b), (1, .ref o), (2, .ref o2), (3, .int (nI i))]) (cont : (∀ (C : CS) (T : TS) (M : MS) (H : Heap) (locs : List Loc), Rel C T M → GI D (fun q : Nat => s.heap.size ≤ q) s.heap (wX o a d C T ++ wM o2 a2 d2 M) H locs → W p l e room_1 s m #[Value.ref b] below meth cd H locs 17 811 (lw_Z below #[Value.ref b] s) (F0 m 496 ls []))) : W p l e room_1 s m #[Value.ref b] below meth cd H locs 17 811 (lw_Z below #[Value.ref b] s) (F0 m 104 ls []) := by
  obtain ⟨hE, hB, hml, hown, hts, hK, hA⟩ := id K
  obtain ⟨C', T', M', r, hMX, hMM, hRl'⟩ := op_begin hRl (xs (i + 1))
  have hbA : ¬ (fun q : Nat => s.heap.size ≤ q) b := Nat.not_le.mpr hbl
  refine lv_aload_n hE hB dL_law_104 rfl (lv_at hl 1 rfl) ?_
  refine lv_aload_n hE hB dL_law_105 rfl (lv_at hl 0 rfl) ?_
  refine lv_iload_n hE hB dL_law_106 rfl (lv_at hl 3 rfl) ?_
  refine lv_iconst (v := nI 1) hE hB dL_law_107 (by decide) ?_
  refine n_add hE hB dL_law_108 ?_
  refine s_ld hE hB hX hbl hbA hI.2.2 (k := i + 1) (by omega) hL dL_law_109 ?_
  refine g_calliL (o := o) (q0 := 0) (ci := 0) (n := 1) (As := [.int (xs (i + 1))]) (rest := []) (wc := wX o a d C T) (wr := wM o2 a2 d2 M) (w1 := wX o a d C' T') (tysC := tysX d) K hI [0, 1, 2, 3, 4, 5, 6, 7, 8, 9, 10] [11, 12, 13, 14, 15, 16] [0, 1, 2, 3, 4, 5, 6, 7, 8, 9] (hMX l D o a d) rfl rfl rfl rfl (by decide) (by decide) (by decide) (lw_V q65 q66 q67 q22 q68) (by decide +kernel) ⟨rfl, rfl⟩ rfl rfl rfl rfl rfl hl.1 ⟨Nat.le_of_ble_eq_true rfl, Nat.le_of_ble_eq_true rfl⟩ (Nat.le_of_ble_eq_true rfl) ⟨Nat.le_of_ble_eq_true rfl, Nat.le_of_ble_eq_true rfl⟩ dL_law_110 (fun H locs hI => ?_)
  refine lv_aload_n hE hB dL_law_113 rfl (lv_at hl 2 rfl) ?_
  refine lv_aload_n hE hB dL_law_114 rfl (lv_at hl 0 rfl) ?_
  refine lv_iload_n hE hB dL_law_115 rfl (lv_at hl 3 rfl) ?_
  refine lv_iconst (v := nI 1) hE hB dL_law_116 (by decide) ?_
  refine n_add hE hB dL_law_117 ?_
  refine s_ld hE hB hX hbl hbA hI.2.2 (k := i + 1) (by omega) hL dL_law_118 ?_
  refine g_calliL (o := o2) (q0 := 0) (ci := 1) (n := 1) (As := [.int (xs (i + 1))]) (rest := [.int r]) (wc := wM o2 a2 d2 M) (wr := wX o a d C' T') (w1 := wM o2 a2 d2 M') (tysC := tysM d2) K hI [0, 1, 2, 3, 4, 5] [6, 7, 8, 9, 10, 11, 12, 13, 14, 15, 16] [10, 11, 12, 13, 14] (hMM l D o2 a2 d2) rfl rfl rfl rfl (by decide) (by decide) (by decide) (lw_V q212 q213 q214 q23 q215) (by decide +kernel) ⟨rfl, rfl⟩ rfl rfl rfl rfl rfl hl.1 ⟨Nat.le_of_ble_eq_true rfl, Nat.le_of_ble_eq_true rfl⟩ (Nat.le_of_ble_eq_true rfl) ⟨Nat.le_of_ble_eq_true rfl, Nat.le_of_ble_eq_true rfl⟩ dL_law_119 (fun H locs hI => ?_)
  exact lv_icmp_eq (tgt := 496) hE hB dL_law_122 (by decide) (fun _ => cont C' T' M' H locs hRl' hI) (fun h => absurd rfl h)
set_option maxHeartbeats 4000000 in
set_option maxRecDepth 100000 in
theorem lop_read {p : Program} {l : Launch} {e : Env} {s : State} {m : MethodId} {below : List Frame} {meth : Method} {cd : Code} {D : va_G} {b L : Nat} {xs : Nat → Int32} {o o2 : Nat} {a a2 : Nat → Nat} {d d2 : Nat → ClassId} {i : Nat} {C : CS} {T : TS} {M : MS} {H : Heap} {locs : List Loc} {ls : Array Slot} (hL : L ≤ 256) (K : GC R_law (tysX d ++ tysM d2) D (fun q : Nat => s.heap.size ≤ q) p s m #[Value.ref b] cd code 4) (hX : va_X b L xs s s.heap) (hbl : b < s.heap.size) (hi : i + 4 ≤ L) (hRl : Rel C T M) (hI : GI D (fun q : Nat => s.heap.size ≤ q) s.heap (wX o a d C T ++ wM o2 a2 d2 M) H locs) (hl : lv_has ls 4 [(0, .ref b), (1, .ref o), (2, .ref o2), (3, .int (nI i))]) (cont : (∀ (C : CS) (T : TS) (M : MS) (H : Heap) (locs : List Loc), Rel C T M → GI D (fun q : Nat => s.heap.size ≤ q) s.heap (wX o a d C T ++ wM o2 a2 d2 M) H locs → W p l e room_1 s m #[Value.ref b] below meth cd H locs 17 811 (lw_Z below #[Value.ref b] s) (F0 m 496 ls []))) : W p l e room_1 s m #[Value.ref b] below meth cd H locs 17 811 (lw_Z below #[Value.ref b] s) (F0 m 127 ls []) := by
  obtain ⟨hE, hB, hml, hown, hts, hK, hA⟩ := id K
  obtain ⟨C', T', M', r, hMX, hMM, hRl'⟩ := op_read hRl (xs (i + 1)) (xs (i + 2))
  have hbA : ¬ (fun q : Nat => s.heap.size ≤ q) b := Nat.not_le.mpr hbl
  refine lv_aload_n hE hB dL_law_127 rfl (lv_at hl 1 rfl) ?_
  refine lv_aload_n hE hB dL_law_128 rfl (lv_at hl 0 rfl) ?_
  refine lv_iload_n hE hB dL_law_129 rfl (lv_at hl 3 rfl) ?_
  refine lv_iconst (v := nI 1) hE hB dL_law_130 (by decide) ?_
  refine n_add hE hB dL_law_131 ?_
  refine s_ld hE hB hX hbl hbA hI.2.2 (k := i + 1) (by omega) hL dL_law_132 ?_
  refine lv_aload_n hE hB dL_law_133 rfl (lv_at hl 0 rfl) ?_
  refine lv_iload_n hE hB dL_law_134 rfl (lv_at hl 3 rfl) ?_
  refine lv_iconst (v := nI 2) hE hB dL_law_135 (by decide) ?_
  refine n_add hE hB dL_law_136 ?_
  refine s_ld hE hB hX hbl hbA hI.2.2 (k := i + 2) (by omega) hL dL_law_137 ?_
  refine g_calliL (o := o) (q0 := 0) (ci := 0) (n := 2) (As := [.int (xs (i + 1)), .int (xs (i + 2))]) (rest := []) (wc := wX o a d C T) (wr := wM o2 a2 d2 M) (w1 := wX o a d C' T') (tysC := tysX d) K hI [0, 1, 2, 3, 4, 5, 6, 7, 8, 9, 10] [11, 12, 13, 14, 15, 16] [0, 1, 2, 3, 4, 5, 6, 7, 8, 9] (hMX l D o a d) rfl rfl rfl rfl (by decide) (by decide) (by decide) (lw_V q72 q73 q74 q22 q75) (by decide +kernel) ⟨rfl, rfl⟩ rfl rfl rfl rfl rfl hl.1 ⟨Nat.le_of_ble_eq_true rfl, Nat.le_of_ble_eq_true rfl⟩ (Nat.le_of_ble_eq_true rfl) ⟨Nat.le_of_ble_eq_true rfl, Nat.le_of_ble_eq_true rfl⟩ dL_law_138 (fun H locs hI => ?_)
  refine lv_aload_n hE hB dL_law_141 rfl (lv_at hl 2 rfl) ?_
  refine lv_aload_n hE hB dL_law_142 rfl (lv_at hl 0 rfl) ?_
  refine lv_iload_n hE hB dL_law_143 rfl (lv_at hl 3 rfl) ?_
  refine lv_iconst (v := nI 1) hE hB dL_law_144 (by decide) ?_
  refine n_add hE hB dL_law_145 ?_
  refine s_ld hE hB hX hbl hbA hI.2.2 (k := i + 1) (by omega) hL dL_law_146 ?_
  refine lv_aload_n hE hB dL_law_147 rfl (lv_at hl 0 rfl) ?_
  refine lv_iload_n hE hB dL_law_148 rfl (lv_at hl 3 rfl) ?_
  refine lv_iconst (v := nI 2) hE hB dL_law_149 (by decide) ?_
  refine n_add hE hB dL_law_150 ?_
  refine s_ld hE hB hX hbl hbA hI.2.2 (k := i + 2) (by omega) hL dL_law_151 ?_
  refine g_calliL (o := o2) (q0 := 0) (ci := 1) (n := 2) (As := [.int (xs (i + 1)), .int (xs (i + 2))]) (rest := [.int r]) (wc := wM o2 a2 d2 M) (wr := wX o a d C' T') (w1 := wM o2 a2 d2 M') (tysC := tysM d2) K hI [0, 1, 2, 3, 4, 5] [6, 7, 8, 9, 10, 11, 12, 13, 14, 15, 16] [10, 11, 12, 13, 14] (hMM l D o2 a2 d2) rfl rfl rfl rfl (by decide) (by decide) (by decide) (lw_V q220 q221 q222 q23 q223) (by decide +kernel) ⟨rfl, rfl⟩ rfl rfl rfl rfl rfl hl.1 ⟨Nat.le_of_ble_eq_true rfl, Nat.le_of_ble_eq_true rfl⟩ (Nat.le_of_ble_eq_true rfl) ⟨Nat.le_of_ble_eq_true rfl, Nat.le_of_ble_eq_true rfl⟩ dL_law_152 (fun H locs hI => ?_)
  exact lv_icmp_eq (tgt := 496) hE hB dL_law_155 (by decide) (fun _ => cont C' T' M' H locs hRl' hI) (fun h => absurd rfl h)
set_option maxHeartbeats 4000000 in
set_option maxRecDepth 100000 in
theorem lop_sees {p : Program} {l : Launch} {e : Env} {s : State} {m : MethodId} {below : List Frame} {meth : Method} {cd : Code} {D : va_G} {b L : Nat} {xs : Nat → Int32} {o o2 : Nat} {a a2 : Nat → Nat} {d d2 : Nat → ClassId} {i : Nat} {C : CS} {T : TS} {M : MS} {H : Heap} {locs : List Loc} {ls : Array Slot} (hL : L ≤ 256) (K : GC R_law (tysX d ++ tysM d2) D (fun q : Nat => s.heap.size ≤ q) p s m #[Value.ref b] cd code 4) (hX : va_X b L xs s s.heap) (hbl : b < s.heap.size) (hi : i + 4 ≤ L) (hRl : Rel C T M) (hI : GI D (fun q : Nat => s.heap.size ≤ q) s.heap (wX o a d C T ++ wM o2 a2 d2 M) H locs) (hl : lv_has ls 4 [(0, .ref b), (1, .ref o), (2, .ref o2), (3, .int (nI i))]) (cont : (∀ (C : CS) (T : TS) (M : MS) (H : Heap) (locs : List Loc), Rel C T M → GI D (fun q : Nat => s.heap.size ≤ q) s.heap (wX o a d C T ++ wM o2 a2 d2 M) H locs → W p l e room_1 s m #[Value.ref b] below meth cd H locs 17 811 (lw_Z below #[Value.ref b] s) (F0 m 496 ls []))) : W p l e room_1 s m #[Value.ref b] below meth cd H locs 17 811 (lw_Z below #[Value.ref b] s) (F0 m 160 ls []) := by
  obtain ⟨hE, hB, hml, hown, hts, hK, hA⟩ := id K
  obtain ⟨C', T', M', r, hMX, hMM, hRl'⟩ := op_sees hRl (xs (i + 1)) (xs (i + 2))
  have hbA : ¬ (fun q : Nat => s.heap.size ≤ q) b := Nat.not_le.mpr hbl
  refine lv_aload_n hE hB dL_law_160 rfl (lv_at hl 1 rfl) ?_
  refine lv_aload_n hE hB dL_law_161 rfl (lv_at hl 0 rfl) ?_
  refine lv_iload_n hE hB dL_law_162 rfl (lv_at hl 3 rfl) ?_
  refine lv_iconst (v := nI 1) hE hB dL_law_163 (by decide) ?_
  refine n_add hE hB dL_law_164 ?_
  refine s_ld hE hB hX hbl hbA hI.2.2 (k := i + 1) (by omega) hL dL_law_165 ?_
  refine lv_aload_n hE hB dL_law_166 rfl (lv_at hl 0 rfl) ?_
  refine lv_iload_n hE hB dL_law_167 rfl (lv_at hl 3 rfl) ?_
  refine lv_iconst (v := nI 2) hE hB dL_law_168 (by decide) ?_
  refine n_add hE hB dL_law_169 ?_
  refine s_ld hE hB hX hbl hbA hI.2.2 (k := i + 2) (by omega) hL dL_law_170 ?_
  refine g_calliL (o := o) (q0 := 0) (ci := 0) (n := 2) (As := [.int (xs (i + 1)), .int (xs (i + 2))]) (rest := []) (wc := wX o a d C T) (wr := wM o2 a2 d2 M) (w1 := wX o a d C' T') (tysC := tysX d) K hI [0, 1, 2, 3, 4, 5, 6, 7, 8, 9, 10] [11, 12, 13, 14, 15, 16] [0, 1, 2, 3, 4, 5, 6, 7, 8, 9] (hMX l D o a d) rfl rfl rfl rfl (by decide) (by decide) (by decide) (lw_V q110 q111 q112 q22 q113) (by decide +kernel) ⟨rfl, rfl⟩ rfl rfl rfl rfl rfl hl.1 ⟨Nat.le_of_ble_eq_true rfl, Nat.le_of_ble_eq_true rfl⟩ (Nat.le_of_ble_eq_true rfl) ⟨Nat.le_of_ble_eq_true rfl, Nat.le_of_ble_eq_true rfl⟩ dL_law_171 (fun H locs hI => ?_)
  refine lv_aload_n hE hB dL_law_174 rfl (lv_at hl 2 rfl) ?_
  refine lv_aload_n hE hB dL_law_175 rfl (lv_at hl 0 rfl) ?_
  refine lv_iload_n hE hB dL_law_176 rfl (lv_at hl 3 rfl) ?_
  refine lv_iconst (v := nI 1) hE hB dL_law_177 (by decide) ?_
  refine n_add hE hB dL_law_178 ?_
  refine s_ld hE hB hX hbl hbA hI.2.2 (k := i + 1) (by omega) hL dL_law_179 ?_
  refine lv_aload_n hE hB dL_law_180 rfl (lv_at hl 0 rfl) ?_
  refine lv_iload_n hE hB dL_law_181 rfl (lv_at hl 3 rfl) ?_
  refine lv_iconst (v := nI 2) hE hB dL_law_182 (by decide) ?_
  refine n_add hE hB dL_law_183 ?_
  refine s_ld hE hB hX hbl hbA hI.2.2 (k := i + 2) (by omega) hL dL_law_184 ?_
  refine g_calliL (o := o2) (q0 := 0) (ci := 1) (n := 2) (As := [.int (xs (i + 1)), .int (xs (i + 2))]) (rest := [.int r]) (wc := wM o2 a2 d2 M) (wr := wX o a d C' T') (w1 := wM o2 a2 d2 M') (tysC := tysM d2) K hI [0, 1, 2, 3, 4, 5] [6, 7, 8, 9, 10, 11, 12, 13, 14, 15, 16] [10, 11, 12, 13, 14] (hMM l D o2 a2 d2) rfl rfl rfl rfl (by decide) (by decide) (by decide) (lw_V q240 q241 q242 q23 q243) (by decide +kernel) ⟨rfl, rfl⟩ rfl rfl rfl rfl rfl hl.1 ⟨Nat.le_of_ble_eq_true rfl, Nat.le_of_ble_eq_true rfl⟩ (Nat.le_of_ble_eq_true rfl) ⟨Nat.le_of_ble_eq_true rfl, Nat.le_of_ble_eq_true rfl⟩ dL_law_185 (fun H locs hI => ?_)
  exact lv_icmp_eq (tgt := 496) hE hB dL_law_188 (by decide) (fun _ => cont C' T' M' H locs hRl' hI) (fun h => absurd rfl h)
set_option maxHeartbeats 4000000 in
set_option maxRecDepth 100000 in
theorem lop_write {p : Program} {l : Launch} {e : Env} {s : State} {m : MethodId} {below : List Frame} {meth : Method} {cd : Code} {D : va_G} {b L : Nat} {xs : Nat → Int32} {o o2 : Nat} {a a2 : Nat → Nat} {d d2 : Nat → ClassId} {i : Nat} {C : CS} {T : TS} {M : MS} {H : Heap} {locs : List Loc} {ls : Array Slot} (hL : L ≤ 256) (K : GC R_law (tysX d ++ tysM d2) D (fun q : Nat => s.heap.size ≤ q) p s m #[Value.ref b] cd code 4) (hX : va_X b L xs s s.heap) (hbl : b < s.heap.size) (hi : i + 4 ≤ L) (hRl : Rel C T M) (hI : GI D (fun q : Nat => s.heap.size ≤ q) s.heap (wX o a d C T ++ wM o2 a2 d2 M) H locs) (hl : lv_has ls 4 [(0, .ref b), (1, .ref o), (2, .ref o2), (3, .int (nI i))]) (cont : (∀ (C : CS) (T : TS) (M : MS) (H : Heap) (locs : List Loc), Rel C T M → GI D (fun q : Nat => s.heap.size ≤ q) s.heap (wX o a d C T ++ wM o2 a2 d2 M) H locs → W p l e room_1 s m #[Value.ref b] below meth cd H locs 17 811 (lw_Z below #[Value.ref b] s) (F0 m 496 ls []))) : W p l e room_1 s m #[Value.ref b] below meth cd H locs 17 811 (lw_Z below #[Value.ref b] s) (F0 m 193 ls []) := by
  obtain ⟨hE, hB, hml, hown, hts, hK, hA⟩ := id K
  obtain ⟨C', T', M', r, hMX, hMM, hRl'⟩ := op_write hRl (xs (i + 1)) (xs (i + 2)) (xs (i + 3))
  have hbA : ¬ (fun q : Nat => s.heap.size ≤ q) b := Nat.not_le.mpr hbl
  refine lv_aload_n hE hB dL_law_193 rfl (lv_at hl 1 rfl) ?_
  refine lv_aload_n hE hB dL_law_194 rfl (lv_at hl 0 rfl) ?_
  refine lv_iload_n hE hB dL_law_195 rfl (lv_at hl 3 rfl) ?_
  refine lv_iconst (v := nI 1) hE hB dL_law_196 (by decide) ?_
  refine n_add hE hB dL_law_197 ?_
  refine s_ld hE hB hX hbl hbA hI.2.2 (k := i + 1) (by omega) hL dL_law_198 ?_
  refine lv_aload_n hE hB dL_law_199 rfl (lv_at hl 0 rfl) ?_
  refine lv_iload_n hE hB dL_law_200 rfl (lv_at hl 3 rfl) ?_
  refine lv_iconst (v := nI 2) hE hB dL_law_201 (by decide) ?_
  refine n_add hE hB dL_law_202 ?_
  refine s_ld hE hB hX hbl hbA hI.2.2 (k := i + 2) (by omega) hL dL_law_203 ?_
  refine lv_aload_n hE hB dL_law_204 rfl (lv_at hl 0 rfl) ?_
  refine lv_iload_n hE hB dL_law_205 rfl (lv_at hl 3 rfl) ?_
  refine lv_iconst (v := nI 3) hE hB dL_law_206 (by decide) ?_
  refine n_add hE hB dL_law_207 ?_
  refine s_ld hE hB hX hbl hbA hI.2.2 (k := i + 3) (by omega) hL dL_law_208 ?_
  refine g_calliL (o := o) (q0 := 0) (ci := 0) (n := 3) (As := [.int (xs (i + 1)), .int (xs (i + 2)), .int (xs (i + 3))]) (rest := []) (wc := wX o a d C T) (wr := wM o2 a2 d2 M) (w1 := wX o a d C' T') (tysC := tysX d) K hI [0, 1, 2, 3, 4, 5, 6, 7, 8, 9, 10] [11, 12, 13, 14, 15, 16] [0, 1, 2, 3, 4, 5, 6, 7, 8, 9] (hMX l D o a d) rfl rfl rfl rfl (by decide) (by decide) (by decide) (lw_V q130 q131 q132 q22 q133) (by decide +kernel) ⟨rfl, rfl⟩ rfl rfl rfl rfl rfl hl.1 ⟨Nat.le_of_ble_eq_true rfl, Nat.le_of_ble_eq_true rfl⟩ (Nat.le_of_ble_eq_true rfl) ⟨Nat.le_of_ble_eq_true rfl, Nat.le_of_ble_eq_true rfl⟩ dL_law_209 (fun H locs hI => ?_)
  refine lv_aload_n hE hB dL_law_212 rfl (lv_at hl 2 rfl) ?_
  refine lv_aload_n hE hB dL_law_213 rfl (lv_at hl 0 rfl) ?_
  refine lv_iload_n hE hB dL_law_214 rfl (lv_at hl 3 rfl) ?_
  refine lv_iconst (v := nI 1) hE hB dL_law_215 (by decide) ?_
  refine n_add hE hB dL_law_216 ?_
  refine s_ld hE hB hX hbl hbA hI.2.2 (k := i + 1) (by omega) hL dL_law_217 ?_
  refine lv_aload_n hE hB dL_law_218 rfl (lv_at hl 0 rfl) ?_
  refine lv_iload_n hE hB dL_law_219 rfl (lv_at hl 3 rfl) ?_
  refine lv_iconst (v := nI 2) hE hB dL_law_220 (by decide) ?_
  refine n_add hE hB dL_law_221 ?_
  refine s_ld hE hB hX hbl hbA hI.2.2 (k := i + 2) (by omega) hL dL_law_222 ?_
  refine lv_aload_n hE hB dL_law_223 rfl (lv_at hl 0 rfl) ?_
  refine lv_iload_n hE hB dL_law_224 rfl (lv_at hl 3 rfl) ?_
  refine lv_iconst (v := nI 3) hE hB dL_law_225 (by decide) ?_
  refine n_add hE hB dL_law_226 ?_
  refine s_ld hE hB hX hbl hbA hI.2.2 (k := i + 3) (by omega) hL dL_law_227 ?_
  refine g_calliL (o := o2) (q0 := 0) (ci := 1) (n := 3) (As := [.int (xs (i + 1)), .int (xs (i + 2)), .int (xs (i + 3))]) (rest := [.int r]) (wc := wM o2 a2 d2 M) (wr := wX o a d C' T') (w1 := wM o2 a2 d2 M') (tysC := tysM d2) K hI [0, 1, 2, 3, 4, 5] [6, 7, 8, 9, 10, 11, 12, 13, 14, 15, 16] [10, 11, 12, 13, 14] (hMM l D o2 a2 d2) rfl rfl rfl rfl (by decide) (by decide) (by decide) (lw_V q244 q245 q246 q23 q247) (by decide +kernel) ⟨rfl, rfl⟩ rfl rfl rfl rfl rfl hl.1 ⟨Nat.le_of_ble_eq_true rfl, Nat.le_of_ble_eq_true rfl⟩ (Nat.le_of_ble_eq_true rfl) ⟨Nat.le_of_ble_eq_true rfl, Nat.le_of_ble_eq_true rfl⟩ dL_law_228 (fun H locs hI => ?_)
  exact lv_icmp_eq (tgt := 496) hE hB dL_law_231 (by decide) (fun _ => cont C' T' M' H locs hRl' hI) (fun h => absurd rfl h)
set_option maxHeartbeats 4000000 in
set_option maxRecDepth 100000 in
theorem lop_add {p : Program} {l : Launch} {e : Env} {s : State} {m : MethodId} {below : List Frame} {meth : Method} {cd : Code} {D : va_G} {b L : Nat} {xs : Nat → Int32} {o o2 : Nat} {a a2 : Nat → Nat} {d d2 : Nat → ClassId} {i : Nat} {C : CS} {T : TS} {M : MS} {H : Heap} {locs : List Loc} {ls : Array Slot} (hL : L ≤ 256) (K : GC R_law (tysX d ++ tysM d2) D (fun q : Nat => s.heap.size ≤ q) p s m #[Value.ref b] cd code 4) (hX : va_X b L xs s s.heap) (hbl : b < s.heap.size) (hi : i + 4 ≤ L) (hRl : Rel C T M) (hI : GI D (fun q : Nat => s.heap.size ≤ q) s.heap (wX o a d C T ++ wM o2 a2 d2 M) H locs) (hl : lv_has ls 4 [(0, .ref b), (1, .ref o), (2, .ref o2), (3, .int (nI i))]) (cont : (∀ (C : CS) (T : TS) (M : MS) (H : Heap) (locs : List Loc), Rel C T M → GI D (fun q : Nat => s.heap.size ≤ q) s.heap (wX o a d C T ++ wM o2 a2 d2 M) H locs → W p l e room_1 s m #[Value.ref b] below meth cd H locs 17 811 (lw_Z below #[Value.ref b] s) (F0 m 496 ls []))) : W p l e room_1 s m #[Value.ref b] below meth cd H locs 17 811 (lw_Z below #[Value.ref b] s) (F0 m 236 ls []) := by
  obtain ⟨hE, hB, hml, hown, hts, hK, hA⟩ := id K
  obtain ⟨C', T', M', r, hMX, hMM, hRl'⟩ := op_add hRl (xs (i + 1)) (xs (i + 2)) (xs (i + 3))
  have hbA : ¬ (fun q : Nat => s.heap.size ≤ q) b := Nat.not_le.mpr hbl
  refine lv_aload_n hE hB dL_law_236 rfl (lv_at hl 1 rfl) ?_
  refine lv_aload_n hE hB dL_law_237 rfl (lv_at hl 0 rfl) ?_
  refine lv_iload_n hE hB dL_law_238 rfl (lv_at hl 3 rfl) ?_
  refine lv_iconst (v := nI 1) hE hB dL_law_239 (by decide) ?_
  refine n_add hE hB dL_law_240 ?_
  refine s_ld hE hB hX hbl hbA hI.2.2 (k := i + 1) (by omega) hL dL_law_241 ?_
  refine lv_aload_n hE hB dL_law_242 rfl (lv_at hl 0 rfl) ?_
  refine lv_iload_n hE hB dL_law_243 rfl (lv_at hl 3 rfl) ?_
  refine lv_iconst (v := nI 2) hE hB dL_law_244 (by decide) ?_
  refine n_add hE hB dL_law_245 ?_
  refine s_ld hE hB hX hbl hbA hI.2.2 (k := i + 2) (by omega) hL dL_law_246 ?_
  refine lv_aload_n hE hB dL_law_247 rfl (lv_at hl 0 rfl) ?_
  refine lv_iload_n hE hB dL_law_248 rfl (lv_at hl 3 rfl) ?_
  refine lv_iconst (v := nI 3) hE hB dL_law_249 (by decide) ?_
  refine n_add hE hB dL_law_250 ?_
  refine s_ld hE hB hX hbl hbA hI.2.2 (k := i + 3) (by omega) hL dL_law_251 ?_
  refine g_calliL (o := o) (q0 := 0) (ci := 0) (n := 3) (As := [.int (xs (i + 1)), .int (xs (i + 2)), .int (xs (i + 3))]) (rest := []) (wc := wX o a d C T) (wr := wM o2 a2 d2 M) (w1 := wX o a d C' T') (tysC := tysX d) K hI [0, 1, 2, 3, 4, 5, 6, 7, 8, 9, 10] [11, 12, 13, 14, 15, 16] [0, 1, 2, 3, 4, 5, 6, 7, 8, 9] (hMX l D o a d) rfl rfl rfl rfl (by decide) (by decide) (by decide) (lw_V q146 q147 q148 q22 q149) (by decide +kernel) ⟨rfl, rfl⟩ rfl rfl rfl rfl rfl hl.1 ⟨Nat.le_of_ble_eq_true rfl, Nat.le_of_ble_eq_true rfl⟩ (Nat.le_of_ble_eq_true rfl) ⟨Nat.le_of_ble_eq_true rfl, Nat.le_of_ble_eq_true rfl⟩ dL_law_252 (fun H locs hI => ?_)
  refine lv_aload_n hE hB dL_law_255 rfl (lv_at hl 2 rfl) ?_
  refine lv_aload_n hE hB dL_law_256 rfl (lv_at hl 0 rfl) ?_
  refine lv_iload_n hE hB dL_law_257 rfl (lv_at hl 3 rfl) ?_
  refine lv_iconst (v := nI 1) hE hB dL_law_258 (by decide) ?_
  refine n_add hE hB dL_law_259 ?_
  refine s_ld hE hB hX hbl hbA hI.2.2 (k := i + 1) (by omega) hL dL_law_260 ?_
  refine lv_aload_n hE hB dL_law_261 rfl (lv_at hl 0 rfl) ?_
  refine lv_iload_n hE hB dL_law_262 rfl (lv_at hl 3 rfl) ?_
  refine lv_iconst (v := nI 2) hE hB dL_law_263 (by decide) ?_
  refine n_add hE hB dL_law_264 ?_
  refine s_ld hE hB hX hbl hbA hI.2.2 (k := i + 2) (by omega) hL dL_law_265 ?_
  refine lv_aload_n hE hB dL_law_266 rfl (lv_at hl 0 rfl) ?_
  refine lv_iload_n hE hB dL_law_267 rfl (lv_at hl 3 rfl) ?_
  refine lv_iconst (v := nI 3) hE hB dL_law_268 (by decide) ?_
  refine n_add hE hB dL_law_269 ?_
  refine s_ld hE hB hX hbl hbA hI.2.2 (k := i + 3) (by omega) hL dL_law_270 ?_
  refine g_calliL (o := o2) (q0 := 0) (ci := 1) (n := 3) (As := [.int (xs (i + 1)), .int (xs (i + 2)), .int (xs (i + 3))]) (rest := [.int r]) (wc := wM o2 a2 d2 M) (wr := wX o a d C' T') (w1 := wM o2 a2 d2 M') (tysC := tysM d2) K hI [0, 1, 2, 3, 4, 5] [6, 7, 8, 9, 10, 11, 12, 13, 14, 15, 16] [10, 11, 12, 13, 14] (hMM l D o2 a2 d2) rfl rfl rfl rfl (by decide) (by decide) (by decide) (lw_V q252 q253 q254 q23 q255) (by decide +kernel) ⟨rfl, rfl⟩ rfl rfl rfl rfl rfl hl.1 ⟨Nat.le_of_ble_eq_true rfl, Nat.le_of_ble_eq_true rfl⟩ (Nat.le_of_ble_eq_true rfl) ⟨Nat.le_of_ble_eq_true rfl, Nat.le_of_ble_eq_true rfl⟩ dL_law_271 (fun H locs hI => ?_)
  exact lv_icmp_eq (tgt := 496) hE hB dL_law_274 (by decide) (fun _ => cont C' T' M' H locs hRl' hI) (fun h => absurd rfl h)
set_option maxHeartbeats 4000000 in
set_option maxRecDepth 100000 in
theorem lop_end {p : Program} {l : Launch} {e : Env} {s : State} {m : MethodId} {below : List Frame} {meth : Method} {cd : Code} {D : va_G} {b L : Nat} {xs : Nat → Int32} {o o2 : Nat} {a a2 : Nat → Nat} {d d2 : Nat → ClassId} {i : Nat} {C : CS} {T : TS} {M : MS} {H : Heap} {locs : List Loc} {ls : Array Slot} (hL : L ≤ 256) (K : GC R_law (tysX d ++ tysM d2) D (fun q : Nat => s.heap.size ≤ q) p s m #[Value.ref b] cd code 4) (hX : va_X b L xs s s.heap) (hbl : b < s.heap.size) (hi : i + 4 ≤ L) (hRl : Rel C T M) (hI : GI D (fun q : Nat => s.heap.size ≤ q) s.heap (wX o a d C T ++ wM o2 a2 d2 M) H locs) (hl : lv_has ls 4 [(0, .ref b), (1, .ref o), (2, .ref o2), (3, .int (nI i))]) (cont : (∀ (C : CS) (T : TS) (M : MS) (H : Heap) (locs : List Loc), Rel C T M → GI D (fun q : Nat => s.heap.size ≤ q) s.heap (wX o a d C T ++ wM o2 a2 d2 M) H locs → W p l e room_1 s m #[Value.ref b] below meth cd H locs 17 811 (lw_Z below #[Value.ref b] s) (F0 m 496 ls []))) : W p l e room_1 s m #[Value.ref b] below meth cd H locs 17 811 (lw_Z below #[Value.ref b] s) (F0 m 279 ls []) := by
  obtain ⟨hE, hB, hml, hown, hts, hK, hA⟩ := id K
  obtain ⟨C', T', M', r, hMX, hMM, hRl'⟩ := op_end hRl (xs (i + 1))
  have hbA : ¬ (fun q : Nat => s.heap.size ≤ q) b := Nat.not_le.mpr hbl
  refine lv_aload_n hE hB dL_law_279 rfl (lv_at hl 1 rfl) ?_
  refine lv_aload_n hE hB dL_law_280 rfl (lv_at hl 0 rfl) ?_
  refine lv_iload_n hE hB dL_law_281 rfl (lv_at hl 3 rfl) ?_
  refine lv_iconst (v := nI 1) hE hB dL_law_282 (by decide) ?_
  refine n_add hE hB dL_law_283 ?_
  refine s_ld hE hB hX hbl hbA hI.2.2 (k := i + 1) (by omega) hL dL_law_284 ?_
  refine g_calliL (o := o) (q0 := 0) (ci := 0) (n := 1) (As := [.int (xs (i + 1))]) (rest := []) (wc := wX o a d C T) (wr := wM o2 a2 d2 M) (w1 := wX o a d C' T') (tysC := tysX d) K hI [0, 1, 2, 3, 4, 5, 6, 7, 8, 9, 10] [11, 12, 13, 14, 15, 16] [0, 1, 2, 3, 4, 5, 6, 7, 8, 9] (hMX l D o a d) rfl rfl rfl rfl (by decide) (by decide) (by decide) (lw_V q150 q151 q152 q22 q153) (by decide +kernel) ⟨rfl, rfl⟩ rfl rfl rfl rfl rfl hl.1 ⟨Nat.le_of_ble_eq_true rfl, Nat.le_of_ble_eq_true rfl⟩ (Nat.le_of_ble_eq_true rfl) ⟨Nat.le_of_ble_eq_true rfl, Nat.le_of_ble_eq_true rfl⟩ dL_law_285 (fun H locs hI => ?_)
  refine lv_aload_n hE hB dL_law_288 rfl (lv_at hl 2 rfl) ?_
  refine lv_aload_n hE hB dL_law_289 rfl (lv_at hl 0 rfl) ?_
  refine lv_iload_n hE hB dL_law_290 rfl (lv_at hl 3 rfl) ?_
  refine lv_iconst (v := nI 1) hE hB dL_law_291 (by decide) ?_
  refine n_add hE hB dL_law_292 ?_
  refine s_ld hE hB hX hbl hbA hI.2.2 (k := i + 1) (by omega) hL dL_law_293 ?_
  refine g_calliL (o := o2) (q0 := 0) (ci := 1) (n := 1) (As := [.int (xs (i + 1))]) (rest := [.int r]) (wc := wM o2 a2 d2 M) (wr := wX o a d C' T') (w1 := wM o2 a2 d2 M') (tysC := tysM d2) K hI [0, 1, 2, 3, 4, 5] [6, 7, 8, 9, 10, 11, 12, 13, 14, 15, 16] [10, 11, 12, 13, 14] (hMM l D o2 a2 d2) rfl rfl rfl rfl (by decide) (by decide) (by decide) (lw_V q258 q259 q260 q23 q261) (by decide +kernel) ⟨rfl, rfl⟩ rfl rfl rfl rfl rfl hl.1 ⟨Nat.le_of_ble_eq_true rfl, Nat.le_of_ble_eq_true rfl⟩ (Nat.le_of_ble_eq_true rfl) ⟨Nat.le_of_ble_eq_true rfl, Nat.le_of_ble_eq_true rfl⟩ dL_law_294 (fun H locs hI => ?_)
  exact lv_icmp_eq (tgt := 496) hE hB dL_law_297 (by decide) (fun _ => cont C' T' M' H locs hRl' hI) (fun h => absurd rfl h)
set_option maxHeartbeats 4000000 in
set_option maxRecDepth 100000 in
theorem lop_giveUp {p : Program} {l : Launch} {e : Env} {s : State} {m : MethodId} {below : List Frame} {meth : Method} {cd : Code} {D : va_G} {b L : Nat} {xs : Nat → Int32} {o o2 : Nat} {a a2 : Nat → Nat} {d d2 : Nat → ClassId} {i : Nat} {C : CS} {T : TS} {M : MS} {H : Heap} {locs : List Loc} {ls : Array Slot} (hL : L ≤ 256) (K : GC R_law (tysX d ++ tysM d2) D (fun q : Nat => s.heap.size ≤ q) p s m #[Value.ref b] cd code 4) (hX : va_X b L xs s s.heap) (hbl : b < s.heap.size) (hi : i + 4 ≤ L) (hRl : Rel C T M) (hI : GI D (fun q : Nat => s.heap.size ≤ q) s.heap (wX o a d C T ++ wM o2 a2 d2 M) H locs) (hl : lv_has ls 4 [(0, .ref b), (1, .ref o), (2, .ref o2), (3, .int (nI i))]) (cont : (∀ (C : CS) (T : TS) (M : MS) (H : Heap) (locs : List Loc), Rel C T M → GI D (fun q : Nat => s.heap.size ≤ q) s.heap (wX o a d C T ++ wM o2 a2 d2 M) H locs → W p l e room_1 s m #[Value.ref b] below meth cd H locs 17 811 (lw_Z below #[Value.ref b] s) (F0 m 496 ls []))) : W p l e room_1 s m #[Value.ref b] below meth cd H locs 17 811 (lw_Z below #[Value.ref b] s) (F0 m 302 ls []) := by
  obtain ⟨hE, hB, hml, hown, hts, hK, hA⟩ := id K
  obtain ⟨C', T', M', r, hMX, hMM, hRl'⟩ := op_giveUp hRl (xs (i + 1))
  have hbA : ¬ (fun q : Nat => s.heap.size ≤ q) b := Nat.not_le.mpr hbl
  refine lv_aload_n hE hB dL_law_302 rfl (lv_at hl 1 rfl) ?_
  refine lv_aload_n hE hB dL_law_303 rfl (lv_at hl 0 rfl) ?_
  refine lv_iload_n hE hB dL_law_304 rfl (lv_at hl 3 rfl) ?_
  refine lv_iconst (v := nI 1) hE hB dL_law_305 (by decide) ?_
  refine n_add hE hB dL_law_306 ?_
  refine s_ld hE hB hX hbl hbA hI.2.2 (k := i + 1) (by omega) hL dL_law_307 ?_
  refine g_calliL (o := o) (q0 := 0) (ci := 0) (n := 1) (As := [.int (xs (i + 1))]) (rest := []) (wc := wX o a d C T) (wr := wM o2 a2 d2 M) (w1 := wX o a d C' T') (tysC := tysX d) K hI [0, 1, 2, 3, 4, 5, 6, 7, 8, 9, 10] [11, 12, 13, 14, 15, 16] [0, 1, 2, 3, 4, 5, 6, 7, 8, 9] (hMX l D o a d) rfl rfl rfl rfl (by decide) (by decide) (by decide) (lw_V q154 q155 q156 q22 q157) (by decide +kernel) ⟨rfl, rfl⟩ rfl rfl rfl rfl rfl hl.1 ⟨Nat.le_of_ble_eq_true rfl, Nat.le_of_ble_eq_true rfl⟩ (Nat.le_of_ble_eq_true rfl) ⟨Nat.le_of_ble_eq_true rfl, Nat.le_of_ble_eq_true rfl⟩ dL_law_308 (fun H locs hI => ?_)
  refine lv_aload_n hE hB dL_law_311 rfl (lv_at hl 2 rfl) ?_
  refine lv_aload_n hE hB dL_law_312 rfl (lv_at hl 0 rfl) ?_
  refine lv_iload_n hE hB dL_law_313 rfl (lv_at hl 3 rfl) ?_
  refine lv_iconst (v := nI 1) hE hB dL_law_314 (by decide) ?_
  refine n_add hE hB dL_law_315 ?_
  refine s_ld hE hB hX hbl hbA hI.2.2 (k := i + 1) (by omega) hL dL_law_316 ?_
  refine g_calliL (o := o2) (q0 := 0) (ci := 1) (n := 1) (As := [.int (xs (i + 1))]) (rest := [.int r]) (wc := wM o2 a2 d2 M) (wr := wX o a d C' T') (w1 := wM o2 a2 d2 M') (tysC := tysM d2) K hI [0, 1, 2, 3, 4, 5] [6, 7, 8, 9, 10, 11, 12, 13, 14, 15, 16] [10, 11, 12, 13, 14] (hMM l D o2 a2 d2) rfl rfl rfl rfl (by decide) (by decide) (by decide) (lw_V q262 q263 q264 q23 q265) (by decide +kernel) ⟨rfl, rfl⟩ rfl rfl rfl rfl rfl hl.1 ⟨Nat.le_of_ble_eq_true rfl, Nat.le_of_ble_eq_true rfl⟩ (Nat.le_of_ble_eq_true rfl) ⟨Nat.le_of_ble_eq_true rfl, Nat.le_of_ble_eq_true rfl⟩ dL_law_317 (fun H locs hI => ?_)
  exact lv_icmp_eq (tgt := 496) hE hB dL_law_320 (by decide) (fun _ => cont C' T' M' H locs hRl' hI) (fun h => absurd rfl h)
set_option maxHeartbeats 4000000 in
set_option maxRecDepth 100000 in
theorem lop_giveAllUp {p : Program} {l : Launch} {e : Env} {s : State} {m : MethodId} {below : List Frame} {meth : Method} {cd : Code} {D : va_G} {b L : Nat} {xs : Nat → Int32} {o o2 : Nat} {a a2 : Nat → Nat} {d d2 : Nat → ClassId} {i : Nat} {C : CS} {T : TS} {M : MS} {H : Heap} {locs : List Loc} {ls : Array Slot} (hL : L ≤ 256) (K : GC R_law (tysX d ++ tysM d2) D (fun q : Nat => s.heap.size ≤ q) p s m #[Value.ref b] cd code 4) (hX : va_X b L xs s s.heap) (hbl : b < s.heap.size) (hi : i + 4 ≤ L) (hRl : Rel C T M) (hI : GI D (fun q : Nat => s.heap.size ≤ q) s.heap (wX o a d C T ++ wM o2 a2 d2 M) H locs) (hl : lv_has ls 4 [(0, .ref b), (1, .ref o), (2, .ref o2), (3, .int (nI i))]) (cont : (∀ (C : CS) (T : TS) (M : MS) (H : Heap) (locs : List Loc), Rel C T M → GI D (fun q : Nat => s.heap.size ≤ q) s.heap (wX o a d C T ++ wM o2 a2 d2 M) H locs → W p l e room_1 s m #[Value.ref b] below meth cd H locs 17 811 (lw_Z below #[Value.ref b] s) (F0 m 496 ls []))) : W p l e room_1 s m #[Value.ref b] below meth cd H locs 17 811 (lw_Z below #[Value.ref b] s) (F0 m 325 ls []) := by
  obtain ⟨hE, hB, hml, hown, hts, hK, hA⟩ := id K
  obtain ⟨C', T', M', r, hMX, hMM, hRl'⟩ := op_giveAllUp hRl (xs (i + 1))
  have hbA : ¬ (fun q : Nat => s.heap.size ≤ q) b := Nat.not_le.mpr hbl
  refine lv_aload_n hE hB dL_law_325 rfl (lv_at hl 1 rfl) ?_
  refine lv_aload_n hE hB dL_law_326 rfl (lv_at hl 0 rfl) ?_
  refine lv_iload_n hE hB dL_law_327 rfl (lv_at hl 3 rfl) ?_
  refine lv_iconst (v := nI 1) hE hB dL_law_328 (by decide) ?_
  refine n_add hE hB dL_law_329 ?_
  refine s_ld hE hB hX hbl hbA hI.2.2 (k := i + 1) (by omega) hL dL_law_330 ?_
  refine g_calliL (o := o) (q0 := 0) (ci := 0) (n := 1) (As := [.int (xs (i + 1))]) (rest := []) (wc := wX o a d C T) (wr := wM o2 a2 d2 M) (w1 := wX o a d C' T') (tysC := tysX d) K hI [0, 1, 2, 3, 4, 5, 6, 7, 8, 9, 10] [11, 12, 13, 14, 15, 16] [0, 1, 2, 3, 4, 5, 6, 7, 8, 9] (hMX l D o a d) rfl rfl rfl rfl (by decide) (by decide) (by decide) (lw_V q162 q163 q164 q22 q165) (by decide +kernel) ⟨rfl, rfl⟩ rfl rfl rfl rfl rfl hl.1 ⟨Nat.le_of_ble_eq_true rfl, Nat.le_of_ble_eq_true rfl⟩ (Nat.le_of_ble_eq_true rfl) ⟨Nat.le_of_ble_eq_true rfl, Nat.le_of_ble_eq_true rfl⟩ dL_law_331 (fun H locs hI => ?_)
  refine lv_aload_n hE hB dL_law_334 rfl (lv_at hl 2 rfl) ?_
  refine lv_aload_n hE hB dL_law_335 rfl (lv_at hl 0 rfl) ?_
  refine lv_iload_n hE hB dL_law_336 rfl (lv_at hl 3 rfl) ?_
  refine lv_iconst (v := nI 1) hE hB dL_law_337 (by decide) ?_
  refine n_add hE hB dL_law_338 ?_
  refine s_ld hE hB hX hbl hbA hI.2.2 (k := i + 1) (by omega) hL dL_law_339 ?_
  refine g_calliL (o := o2) (q0 := 0) (ci := 1) (n := 1) (As := [.int (xs (i + 1))]) (rest := [.int r]) (wc := wM o2 a2 d2 M) (wr := wX o a d C' T') (w1 := wM o2 a2 d2 M') (tysC := tysM d2) K hI [0, 1, 2, 3, 4, 5] [6, 7, 8, 9, 10, 11, 12, 13, 14, 15, 16] [10, 11, 12, 13, 14] (hMM l D o2 a2 d2) rfl rfl rfl rfl (by decide) (by decide) (by decide) (lw_V q266 q267 q268 q23 q269) (by decide +kernel) ⟨rfl, rfl⟩ rfl rfl rfl rfl rfl hl.1 ⟨Nat.le_of_ble_eq_true rfl, Nat.le_of_ble_eq_true rfl⟩ (Nat.le_of_ble_eq_true rfl) ⟨Nat.le_of_ble_eq_true rfl, Nat.le_of_ble_eq_true rfl⟩ dL_law_340 (fun H locs hI => ?_)
  exact lv_icmp_eq (tgt := 496) hE hB dL_law_343 (by decide) (fun _ => cont C' T' M' H locs hRl' hI) (fun h => absurd rfl h)
set_option maxHeartbeats 4000000 in
set_option maxRecDepth 100000 in
theorem lop_level {p : Program} {l : Launch} {e : Env} {s : State} {m : MethodId} {below : List Frame} {meth : Method} {cd : Code} {D : va_G} {b L : Nat} {xs : Nat → Int32} {o o2 : Nat} {a a2 : Nat → Nat} {d d2 : Nat → ClassId} {i : Nat} {C : CS} {T : TS} {M : MS} {H : Heap} {locs : List Loc} {ls : Array Slot} (hL : L ≤ 256) (K : GC R_law (tysX d ++ tysM d2) D (fun q : Nat => s.heap.size ≤ q) p s m #[Value.ref b] cd code 4) (hX : va_X b L xs s s.heap) (hbl : b < s.heap.size) (hi : i + 4 ≤ L) (hRl : Rel C T M) (hI : GI D (fun q : Nat => s.heap.size ≤ q) s.heap (wX o a d C T ++ wM o2 a2 d2 M) H locs) (hl : lv_has ls 4 [(0, .ref b), (1, .ref o), (2, .ref o2), (3, .int (nI i))]) (cont : (∀ (C : CS) (T : TS) (M : MS) (H : Heap) (locs : List Loc), Rel C T M → GI D (fun q : Nat => s.heap.size ≤ q) s.heap (wX o a d C T ++ wM o2 a2 d2 M) H locs → W p l e room_1 s m #[Value.ref b] below meth cd H locs 17 811 (lw_Z below #[Value.ref b] s) (F0 m 496 ls []))) : W p l e room_1 s m #[Value.ref b] below meth cd H locs 17 811 (lw_Z below #[Value.ref b] s) (F0 m 348 ls []) := by
  obtain ⟨hE, hB, hml, hown, hts, hK, hA⟩ := id K
  obtain ⟨C', T', M', r, hMX, hMM, hRl'⟩ := op_level hRl (xs (i + 1))
  have hbA : ¬ (fun q : Nat => s.heap.size ≤ q) b := Nat.not_le.mpr hbl
  refine lv_aload_n hE hB dL_law_348 rfl (lv_at hl 1 rfl) ?_
  refine lv_aload_n hE hB dL_law_349 rfl (lv_at hl 0 rfl) ?_
  refine lv_iload_n hE hB dL_law_350 rfl (lv_at hl 3 rfl) ?_
  refine lv_iconst (v := nI 1) hE hB dL_law_351 (by decide) ?_
  refine n_add hE hB dL_law_352 ?_
  refine s_ld hE hB hX hbl hbA hI.2.2 (k := i + 1) (by omega) hL dL_law_353 ?_
  refine g_calliL (o := o) (q0 := 0) (ci := 0) (n := 1) (As := [.int (xs (i + 1))]) (rest := []) (wc := wX o a d C T) (wr := wM o2 a2 d2 M) (w1 := wX o a d C' T') (tysC := tysX d) K hI [0, 1, 2, 3, 4, 5, 6, 7, 8, 9, 10] [11, 12, 13, 14, 15, 16] [0, 1, 2, 3, 4, 5, 6, 7, 8, 9] (hMX l D o a d) rfl rfl rfl rfl (by decide) (by decide) (by decide) (lw_V q166 q167 q168 q22 q169) (by decide +kernel) ⟨rfl, rfl⟩ rfl rfl rfl rfl rfl hl.1 ⟨Nat.le_of_ble_eq_true rfl, Nat.le_of_ble_eq_true rfl⟩ (Nat.le_of_ble_eq_true rfl) ⟨Nat.le_of_ble_eq_true rfl, Nat.le_of_ble_eq_true rfl⟩ dL_law_354 (fun H locs hI => ?_)
  refine lv_aload_n hE hB dL_law_357 rfl (lv_at hl 2 rfl) ?_
  refine lv_aload_n hE hB dL_law_358 rfl (lv_at hl 0 rfl) ?_
  refine lv_iload_n hE hB dL_law_359 rfl (lv_at hl 3 rfl) ?_
  refine lv_iconst (v := nI 1) hE hB dL_law_360 (by decide) ?_
  refine n_add hE hB dL_law_361 ?_
  refine s_ld hE hB hX hbl hbA hI.2.2 (k := i + 1) (by omega) hL dL_law_362 ?_
  refine g_calliL (o := o2) (q0 := 0) (ci := 1) (n := 1) (As := [.int (xs (i + 1))]) (rest := [.int r]) (wc := wM o2 a2 d2 M) (wr := wX o a d C' T') (w1 := wM o2 a2 d2 M') (tysC := tysM d2) K hI [0, 1, 2, 3, 4, 5] [6, 7, 8, 9, 10, 11, 12, 13, 14, 15, 16] [10, 11, 12, 13, 14] (hMM l D o2 a2 d2) rfl rfl rfl rfl (by decide) (by decide) (by decide) (lw_V q270 q271 q272 q23 q273) (by decide +kernel) ⟨rfl, rfl⟩ rfl rfl rfl rfl rfl hl.1 ⟨Nat.le_of_ble_eq_true rfl, Nat.le_of_ble_eq_true rfl⟩ (Nat.le_of_ble_eq_true rfl) ⟨Nat.le_of_ble_eq_true rfl, Nat.le_of_ble_eq_true rfl⟩ dL_law_363 (fun H locs hI => ?_)
  exact lv_icmp_eq (tgt := 496) hE hB dL_law_366 (by decide) (fun _ => cont C' T' M' H locs hRl' hI) (fun h => absurd rfl h)
set_option maxHeartbeats 4000000 in
set_option maxRecDepth 100000 in
theorem lop_committed {p : Program} {l : Launch} {e : Env} {s : State} {m : MethodId} {below : List Frame} {meth : Method} {cd : Code} {D : va_G} {b L : Nat} {xs : Nat → Int32} {o o2 : Nat} {a a2 : Nat → Nat} {d d2 : Nat → ClassId} {i : Nat} {C : CS} {T : TS} {M : MS} {H : Heap} {locs : List Loc} {ls : Array Slot} (hL : L ≤ 256) (K : GC R_law (tysX d ++ tysM d2) D (fun q : Nat => s.heap.size ≤ q) p s m #[Value.ref b] cd code 4) (hX : va_X b L xs s s.heap) (hbl : b < s.heap.size) (hi : i + 4 ≤ L) (hRl : Rel C T M) (hI : GI D (fun q : Nat => s.heap.size ≤ q) s.heap (wX o a d C T ++ wM o2 a2 d2 M) H locs) (hl : lv_has ls 4 [(0, .ref b), (1, .ref o), (2, .ref o2), (3, .int (nI i))]) (cont : (∀ (C : CS) (T : TS) (M : MS) (H : Heap) (locs : List Loc), Rel C T M → GI D (fun q : Nat => s.heap.size ≤ q) s.heap (wX o a d C T ++ wM o2 a2 d2 M) H locs → W p l e room_1 s m #[Value.ref b] below meth cd H locs 17 811 (lw_Z below #[Value.ref b] s) (F0 m 496 ls []))) : W p l e room_1 s m #[Value.ref b] below meth cd H locs 17 811 (lw_Z below #[Value.ref b] s) (F0 m 371 ls []) := by
  obtain ⟨hE, hB, hml, hown, hts, hK, hA⟩ := id K
  obtain ⟨C', T', M', r, hMX, hMM, hRl'⟩ := op_committed hRl (xs (i + 1))
  have hbA : ¬ (fun q : Nat => s.heap.size ≤ q) b := Nat.not_le.mpr hbl
  refine lv_aload_n hE hB dL_law_371 rfl (lv_at hl 1 rfl) ?_
  refine lv_aload_n hE hB dL_law_372 rfl (lv_at hl 0 rfl) ?_
  refine lv_iload_n hE hB dL_law_373 rfl (lv_at hl 3 rfl) ?_
  refine lv_iconst (v := nI 1) hE hB dL_law_374 (by decide) ?_
  refine n_add hE hB dL_law_375 ?_
  refine s_ld hE hB hX hbl hbA hI.2.2 (k := i + 1) (by omega) hL dL_law_376 ?_
  refine g_calliL (o := o) (q0 := 0) (ci := 0) (n := 1) (As := [.int (xs (i + 1))]) (rest := []) (wc := wX o a d C T) (wr := wM o2 a2 d2 M) (w1 := wX o a d C' T') (tysC := tysX d) K hI [0, 1, 2, 3, 4, 5, 6, 7, 8, 9, 10] [11, 12, 13, 14, 15, 16] [0, 1, 2, 3, 4, 5, 6, 7, 8, 9] (hMX l D o a d) rfl rfl rfl rfl (by decide) (by decide) (by decide) (lw_V q170 q171 q172 q22 q173) (by decide +kernel) ⟨rfl, rfl⟩ rfl rfl rfl rfl rfl hl.1 ⟨Nat.le_of_ble_eq_true rfl, Nat.le_of_ble_eq_true rfl⟩ (Nat.le_of_ble_eq_true rfl) ⟨Nat.le_of_ble_eq_true rfl, Nat.le_of_ble_eq_true rfl⟩ dL_law_377 (fun H locs hI => ?_)
  refine lv_aload_n hE hB dL_law_380 rfl (lv_at hl 2 rfl) ?_
  refine lv_aload_n hE hB dL_law_381 rfl (lv_at hl 0 rfl) ?_
  refine lv_iload_n hE hB dL_law_382 rfl (lv_at hl 3 rfl) ?_
  refine lv_iconst (v := nI 1) hE hB dL_law_383 (by decide) ?_
  refine n_add hE hB dL_law_384 ?_
  refine s_ld hE hB hX hbl hbA hI.2.2 (k := i + 1) (by omega) hL dL_law_385 ?_
  refine g_calliL (o := o2) (q0 := 0) (ci := 1) (n := 1) (As := [.int (xs (i + 1))]) (rest := [.int r]) (wc := wM o2 a2 d2 M) (wr := wX o a d C' T') (w1 := wM o2 a2 d2 M') (tysC := tysM d2) K hI [0, 1, 2, 3, 4, 5] [6, 7, 8, 9, 10, 11, 12, 13, 14, 15, 16] [10, 11, 12, 13, 14] (hMM l D o2 a2 d2) rfl rfl rfl rfl (by decide) (by decide) (by decide) (lw_V q274 q275 q276 q23 q277) (by decide +kernel) ⟨rfl, rfl⟩ rfl rfl rfl rfl rfl hl.1 ⟨Nat.le_of_ble_eq_true rfl, Nat.le_of_ble_eq_true rfl⟩ (Nat.le_of_ble_eq_true rfl) ⟨Nat.le_of_ble_eq_true rfl, Nat.le_of_ble_eq_true rfl⟩ dL_law_386 (fun H locs hI => ?_)
  exact lv_icmp_eq (tgt := 496) hE hB dL_law_389 (by decide) (fun _ => cont C' T' M' H locs hRl' hI) (fun h => absurd rfl h)
set_option maxHeartbeats 4000000 in
set_option maxRecDepth 100000 in
theorem lop_readBy {p : Program} {l : Launch} {e : Env} {s : State} {m : MethodId} {below : List Frame} {meth : Method} {cd : Code} {D : va_G} {b L : Nat} {xs : Nat → Int32} {o o2 : Nat} {a a2 : Nat → Nat} {d d2 : Nat → ClassId} {i : Nat} {C : CS} {T : TS} {M : MS} {H : Heap} {locs : List Loc} {ls : Array Slot} (hL : L ≤ 256) (K : GC R_law (tysX d ++ tysM d2) D (fun q : Nat => s.heap.size ≤ q) p s m #[Value.ref b] cd code 4) (hX : va_X b L xs s s.heap) (hbl : b < s.heap.size) (hi : i + 4 ≤ L) (hRl : Rel C T M) (hI : GI D (fun q : Nat => s.heap.size ≤ q) s.heap (wX o a d C T ++ wM o2 a2 d2 M) H locs) (hl : lv_has ls 4 [(0, .ref b), (1, .ref o), (2, .ref o2), (3, .int (nI i))]) (cont : (∀ (C : CS) (T : TS) (M : MS) (H : Heap) (locs : List Loc), Rel C T M → GI D (fun q : Nat => s.heap.size ≤ q) s.heap (wX o a d C T ++ wM o2 a2 d2 M) H locs → W p l e room_1 s m #[Value.ref b] below meth cd H locs 17 811 (lw_Z below #[Value.ref b] s) (F0 m 496 ls []))) : W p l e room_1 s m #[Value.ref b] below meth cd H locs 17 811 (lw_Z below #[Value.ref b] s) (F0 m 394 ls []) := by
  obtain ⟨hE, hB, hml, hown, hts, hK, hA⟩ := id K
  obtain ⟨C', T', M', r, hMX, hMM, hRl'⟩ := op_readBy hRl (xs (i + 1))
  have hbA : ¬ (fun q : Nat => s.heap.size ≤ q) b := Nat.not_le.mpr hbl
  refine lv_aload_n hE hB dL_law_394 rfl (lv_at hl 1 rfl) ?_
  refine lv_aload_n hE hB dL_law_395 rfl (lv_at hl 0 rfl) ?_
  refine lv_iload_n hE hB dL_law_396 rfl (lv_at hl 3 rfl) ?_
  refine lv_iconst (v := nI 1) hE hB dL_law_397 (by decide) ?_
  refine n_add hE hB dL_law_398 ?_
  refine s_ld hE hB hX hbl hbA hI.2.2 (k := i + 1) (by omega) hL dL_law_399 ?_
  refine g_calliL (o := o) (q0 := 0) (ci := 0) (n := 1) (As := [.int (xs (i + 1))]) (rest := []) (wc := wX o a d C T) (wr := wM o2 a2 d2 M) (w1 := wX o a d C' T') (tysC := tysX d) K hI [0, 1, 2, 3, 4, 5, 6, 7, 8, 9, 10] [11, 12, 13, 14, 15, 16] [0, 1, 2, 3, 4, 5, 6, 7, 8, 9] (hMX l D o a d) rfl rfl rfl rfl (by decide) (by decide) (by decide) (lw_V q174 q175 q176 q22 q177) (by decide +kernel) ⟨rfl, rfl⟩ rfl rfl rfl rfl rfl hl.1 ⟨Nat.le_of_ble_eq_true rfl, Nat.le_of_ble_eq_true rfl⟩ (Nat.le_of_ble_eq_true rfl) ⟨Nat.le_of_ble_eq_true rfl, Nat.le_of_ble_eq_true rfl⟩ dL_law_400 (fun H locs hI => ?_)
  refine lv_aload_n hE hB dL_law_403 rfl (lv_at hl 2 rfl) ?_
  refine lv_aload_n hE hB dL_law_404 rfl (lv_at hl 0 rfl) ?_
  refine lv_iload_n hE hB dL_law_405 rfl (lv_at hl 3 rfl) ?_
  refine lv_iconst (v := nI 1) hE hB dL_law_406 (by decide) ?_
  refine n_add hE hB dL_law_407 ?_
  refine s_ld hE hB hX hbl hbA hI.2.2 (k := i + 1) (by omega) hL dL_law_408 ?_
  refine g_calliL (o := o2) (q0 := 0) (ci := 1) (n := 1) (As := [.int (xs (i + 1))]) (rest := [.int r]) (wc := wM o2 a2 d2 M) (wr := wX o a d C' T') (w1 := wM o2 a2 d2 M') (tysC := tysM d2) K hI [0, 1, 2, 3, 4, 5] [6, 7, 8, 9, 10, 11, 12, 13, 14, 15, 16] [10, 11, 12, 13, 14] (hMM l D o2 a2 d2) rfl rfl rfl rfl (by decide) (by decide) (by decide) (lw_V q278 q279 q280 q23 q281) (by decide +kernel) ⟨rfl, rfl⟩ rfl rfl rfl rfl rfl hl.1 ⟨Nat.le_of_ble_eq_true rfl, Nat.le_of_ble_eq_true rfl⟩ (Nat.le_of_ble_eq_true rfl) ⟨Nat.le_of_ble_eq_true rfl, Nat.le_of_ble_eq_true rfl⟩ dL_law_409 (fun H locs hI => ?_)
  exact lv_icmp_eq (tgt := 496) hE hB dL_law_412 (by decide) (fun _ => cont C' T' M' H locs hRl' hI) (fun h => absurd rfl h)
set_option maxHeartbeats 4000000 in
set_option maxRecDepth 100000 in
theorem lop_writtenBy {p : Program} {l : Launch} {e : Env} {s : State} {m : MethodId} {below : List Frame} {meth : Method} {cd : Code} {D : va_G} {b L : Nat} {xs : Nat → Int32} {o o2 : Nat} {a a2 : Nat → Nat} {d d2 : Nat → ClassId} {i : Nat} {C : CS} {T : TS} {M : MS} {H : Heap} {locs : List Loc} {ls : Array Slot} (hL : L ≤ 256) (K : GC R_law (tysX d ++ tysM d2) D (fun q : Nat => s.heap.size ≤ q) p s m #[Value.ref b] cd code 4) (hX : va_X b L xs s s.heap) (hbl : b < s.heap.size) (hi : i + 4 ≤ L) (hRl : Rel C T M) (hI : GI D (fun q : Nat => s.heap.size ≤ q) s.heap (wX o a d C T ++ wM o2 a2 d2 M) H locs) (hl : lv_has ls 4 [(0, .ref b), (1, .ref o), (2, .ref o2), (3, .int (nI i))]) (cont : (∀ (C : CS) (T : TS) (M : MS) (H : Heap) (locs : List Loc), Rel C T M → GI D (fun q : Nat => s.heap.size ≤ q) s.heap (wX o a d C T ++ wM o2 a2 d2 M) H locs → W p l e room_1 s m #[Value.ref b] below meth cd H locs 17 811 (lw_Z below #[Value.ref b] s) (F0 m 496 ls []))) : W p l e room_1 s m #[Value.ref b] below meth cd H locs 17 811 (lw_Z below #[Value.ref b] s) (F0 m 417 ls []) := by
  obtain ⟨hE, hB, hml, hown, hts, hK, hA⟩ := id K
  obtain ⟨C', T', M', r, hMX, hMM, hRl'⟩ := op_writtenBy hRl (xs (i + 1))
  have hbA : ¬ (fun q : Nat => s.heap.size ≤ q) b := Nat.not_le.mpr hbl
  refine lv_aload_n hE hB dL_law_417 rfl (lv_at hl 1 rfl) ?_
  refine lv_aload_n hE hB dL_law_418 rfl (lv_at hl 0 rfl) ?_
  refine lv_iload_n hE hB dL_law_419 rfl (lv_at hl 3 rfl) ?_
  refine lv_iconst (v := nI 1) hE hB dL_law_420 (by decide) ?_
  refine n_add hE hB dL_law_421 ?_
  refine s_ld hE hB hX hbl hbA hI.2.2 (k := i + 1) (by omega) hL dL_law_422 ?_
  refine g_calliL (o := o) (q0 := 0) (ci := 0) (n := 1) (As := [.int (xs (i + 1))]) (rest := []) (wc := wX o a d C T) (wr := wM o2 a2 d2 M) (w1 := wX o a d C' T') (tysC := tysX d) K hI [0, 1, 2, 3, 4, 5, 6, 7, 8, 9, 10] [11, 12, 13, 14, 15, 16] [0, 1, 2, 3, 4, 5, 6, 7, 8, 9] (hMX l D o a d) rfl rfl rfl rfl (by decide) (by decide) (by decide) (lw_V q178 q179 q180 q22 q181) (by decide +kernel) ⟨rfl, rfl⟩ rfl rfl rfl rfl rfl hl.1 ⟨Nat.le_of_ble_eq_true rfl, Nat.le_of_ble_eq_true rfl⟩ (Nat.le_of_ble_eq_true rfl) ⟨Nat.le_of_ble_eq_true rfl, Nat.le_of_ble_eq_true rfl⟩ dL_law_423 (fun H locs hI => ?_)
  refine lv_aload_n hE hB dL_law_426 rfl (lv_at hl 2 rfl) ?_
  refine lv_aload_n hE hB dL_law_427 rfl (lv_at hl 0 rfl) ?_
  refine lv_iload_n hE hB dL_law_428 rfl (lv_at hl 3 rfl) ?_
  refine lv_iconst (v := nI 1) hE hB dL_law_429 (by decide) ?_
  refine n_add hE hB dL_law_430 ?_
  refine s_ld hE hB hX hbl hbA hI.2.2 (k := i + 1) (by omega) hL dL_law_431 ?_
  refine g_calliL (o := o2) (q0 := 0) (ci := 1) (n := 1) (As := [.int (xs (i + 1))]) (rest := [.int r]) (wc := wM o2 a2 d2 M) (wr := wX o a d C' T') (w1 := wM o2 a2 d2 M') (tysC := tysM d2) K hI [0, 1, 2, 3, 4, 5] [6, 7, 8, 9, 10, 11, 12, 13, 14, 15, 16] [10, 11, 12, 13, 14] (hMM l D o2 a2 d2) rfl rfl rfl rfl (by decide) (by decide) (by decide) (lw_V q282 q283 q284 q23 q285) (by decide +kernel) ⟨rfl, rfl⟩ rfl rfl rfl rfl rfl hl.1 ⟨Nat.le_of_ble_eq_true rfl, Nat.le_of_ble_eq_true rfl⟩ (Nat.le_of_ble_eq_true rfl) ⟨Nat.le_of_ble_eq_true rfl, Nat.le_of_ble_eq_true rfl⟩ dL_law_432 (fun H locs hI => ?_)
  exact lv_icmp_eq (tgt := 496) hE hB dL_law_435 (by decide) (fun _ => cont C' T' M' H locs hRl' hI) (fun h => absurd rfl h)
set_option maxHeartbeats 4000000 in
set_option maxRecDepth 100000 in
theorem lop_rivals {p : Program} {l : Launch} {e : Env} {s : State} {m : MethodId} {below : List Frame} {meth : Method} {cd : Code} {D : va_G} {b L : Nat} {xs : Nat → Int32} {o o2 : Nat} {a a2 : Nat → Nat} {d d2 : Nat → ClassId} {i : Nat} {C : CS} {T : TS} {M : MS} {H : Heap} {locs : List Loc} {ls : Array Slot} (hL : L ≤ 256) (K : GC R_law (tysX d ++ tysM d2) D (fun q : Nat => s.heap.size ≤ q) p s m #[Value.ref b] cd code 4) (hX : va_X b L xs s s.heap) (hbl : b < s.heap.size) (hi : i + 4 ≤ L) (hRl : Rel C T M) (hI : GI D (fun q : Nat => s.heap.size ≤ q) s.heap (wX o a d C T ++ wM o2 a2 d2 M) H locs) (hl : lv_has ls 4 [(0, .ref b), (1, .ref o), (2, .ref o2), (3, .int (nI i))]) (cont : (∀ (C : CS) (T : TS) (M : MS) (H : Heap) (locs : List Loc), Rel C T M → GI D (fun q : Nat => s.heap.size ≤ q) s.heap (wX o a d C T ++ wM o2 a2 d2 M) H locs → W p l e room_1 s m #[Value.ref b] below meth cd H locs 17 811 (lw_Z below #[Value.ref b] s) (F0 m 496 ls []))) : W p l e room_1 s m #[Value.ref b] below meth cd H locs 17 811 (lw_Z below #[Value.ref b] s) (F0 m 440 ls []) := by
  obtain ⟨hE, hB, hml, hown, hts, hK, hA⟩ := id K
  obtain ⟨C', T', M', r, hMX, hMM, hRl'⟩ := op_rivals hRl (xs (i + 1)) (xs (i + 2)) (xs (i + 3))
  have hbA : ¬ (fun q : Nat => s.heap.size ≤ q) b := Nat.not_le.mpr hbl
  refine lv_aload_n hE hB dL_law_440 rfl (lv_at hl 1 rfl) ?_
  refine lv_aload_n hE hB dL_law_441 rfl (lv_at hl 0 rfl) ?_
  refine lv_iload_n hE hB dL_law_442 rfl (lv_at hl 3 rfl) ?_
  refine lv_iconst (v := nI 1) hE hB dL_law_443 (by decide) ?_
  refine n_add hE hB dL_law_444 ?_
  refine s_ld hE hB hX hbl hbA hI.2.2 (k := i + 1) (by omega) hL dL_law_445 ?_
  refine lv_aload_n hE hB dL_law_446 rfl (lv_at hl 0 rfl) ?_
  refine lv_iload_n hE hB dL_law_447 rfl (lv_at hl 3 rfl) ?_
  refine lv_iconst (v := nI 2) hE hB dL_law_448 (by decide) ?_
  refine n_add hE hB dL_law_449 ?_
  refine s_ld hE hB hX hbl hbA hI.2.2 (k := i + 2) (by omega) hL dL_law_450 ?_
  refine lv_aload_n hE hB dL_law_451 rfl (lv_at hl 0 rfl) ?_
  refine lv_iload_n hE hB dL_law_452 rfl (lv_at hl 3 rfl) ?_
  refine lv_iconst (v := nI 3) hE hB dL_law_453 (by decide) ?_
  refine n_add hE hB dL_law_454 ?_
  refine s_ld hE hB hX hbl hbA hI.2.2 (k := i + 3) (by omega) hL dL_law_455 ?_
  refine g_calliL (o := o) (q0 := 0) (ci := 0) (n := 3) (As := [.int (xs (i + 1)), .int (xs (i + 2)), .int (xs (i + 3))]) (rest := []) (wc := wX o a d C T) (wr := wM o2 a2 d2 M) (w1 := wX o a d C' T') (tysC := tysX d) K hI [0, 1, 2, 3, 4, 5, 6, 7, 8, 9, 10] [11, 12, 13, 14, 15, 16] [0, 1, 2, 3, 4, 5, 6, 7, 8, 9] (hMX l D o a d) rfl rfl rfl rfl (by decide) (by decide) (by decide) (lw_V q182 q183 q184 q22 q185) (by decide +kernel) ⟨rfl, rfl⟩ rfl rfl rfl rfl rfl hl.1 ⟨Nat.le_of_ble_eq_true rfl, Nat.le_of_ble_eq_true rfl⟩ (Nat.le_of_ble_eq_true rfl) ⟨Nat.le_of_ble_eq_true rfl, Nat.le_of_ble_eq_true rfl⟩ dL_law_456 (fun H locs hI => ?_)
  refine lv_aload_n hE hB dL_law_459 rfl (lv_at hl 2 rfl) ?_
  refine lv_aload_n hE hB dL_law_460 rfl (lv_at hl 0 rfl) ?_
  refine lv_iload_n hE hB dL_law_461 rfl (lv_at hl 3 rfl) ?_
  refine lv_iconst (v := nI 1) hE hB dL_law_462 (by decide) ?_
  refine n_add hE hB dL_law_463 ?_
  refine s_ld hE hB hX hbl hbA hI.2.2 (k := i + 1) (by omega) hL dL_law_464 ?_
  refine lv_aload_n hE hB dL_law_465 rfl (lv_at hl 0 rfl) ?_
  refine lv_iload_n hE hB dL_law_466 rfl (lv_at hl 3 rfl) ?_
  refine lv_iconst (v := nI 2) hE hB dL_law_467 (by decide) ?_
  refine n_add hE hB dL_law_468 ?_
  refine s_ld hE hB hX hbl hbA hI.2.2 (k := i + 2) (by omega) hL dL_law_469 ?_
  refine lv_aload_n hE hB dL_law_470 rfl (lv_at hl 0 rfl) ?_
  refine lv_iload_n hE hB dL_law_471 rfl (lv_at hl 3 rfl) ?_
  refine lv_iconst (v := nI 3) hE hB dL_law_472 (by decide) ?_
  refine n_add hE hB dL_law_473 ?_
  refine s_ld hE hB hX hbl hbA hI.2.2 (k := i + 3) (by omega) hL dL_law_474 ?_
  refine g_calliL (o := o2) (q0 := 0) (ci := 1) (n := 3) (As := [.int (xs (i + 1)), .int (xs (i + 2)), .int (xs (i + 3))]) (rest := [.int r]) (wc := wM o2 a2 d2 M) (wr := wX o a d C' T') (w1 := wM o2 a2 d2 M') (tysC := tysM d2) K hI [0, 1, 2, 3, 4, 5] [6, 7, 8, 9, 10, 11, 12, 13, 14, 15, 16] [10, 11, 12, 13, 14] (hMM l D o2 a2 d2) rfl rfl rfl rfl (by decide) (by decide) (by decide) (lw_V q286 q287 q288 q23 q289) (by decide +kernel) ⟨rfl, rfl⟩ rfl rfl rfl rfl rfl hl.1 ⟨Nat.le_of_ble_eq_true rfl, Nat.le_of_ble_eq_true rfl⟩ (Nat.le_of_ble_eq_true rfl) ⟨Nat.le_of_ble_eq_true rfl, Nat.le_of_ble_eq_true rfl⟩ dL_law_475 (fun H locs hI => ?_)
  exact lv_icmp_eq (tgt := 496) hE hB dL_law_478 (by decide) (fun _ => cont C' T' M' H locs hRl' hI) (fun h => absurd rfl h)
set_option maxHeartbeats 4000000 in
set_option maxRecDepth 100000 in
theorem lop_digest {p : Program} {l : Launch} {e : Env} {s : State} {m : MethodId} {below : List Frame} {meth : Method} {cd : Code} {D : va_G} {b L : Nat} {xs : Nat → Int32} {o o2 : Nat} {a a2 : Nat → Nat} {d d2 : Nat → ClassId} {i : Nat} {C : CS} {T : TS} {M : MS} {H : Heap} {locs : List Loc} {ls : Array Slot} (hL : L ≤ 256) (K : GC R_law (tysX d ++ tysM d2) D (fun q : Nat => s.heap.size ≤ q) p s m #[Value.ref b] cd code 4) (hX : va_X b L xs s s.heap) (hbl : b < s.heap.size) (hi : i + 4 ≤ L) (hRl : Rel C T M) (hI : GI D (fun q : Nat => s.heap.size ≤ q) s.heap (wX o a d C T ++ wM o2 a2 d2 M) H locs) (hl : lv_has ls 4 [(0, .ref b), (1, .ref o), (2, .ref o2), (3, .int (nI i))]) (cont : (∀ (C : CS) (T : TS) (M : MS) (H : Heap) (locs : List Loc), Rel C T M → GI D (fun q : Nat => s.heap.size ≤ q) s.heap (wX o a d C T ++ wM o2 a2 d2 M) H locs → W p l e room_1 s m #[Value.ref b] below meth cd H locs 17 811 (lw_Z below #[Value.ref b] s) (F0 m 496 ls []))) : W p l e room_1 s m #[Value.ref b] below meth cd H locs 17 811 (lw_Z below #[Value.ref b] s) (F0 m 483 ls []) := by
  obtain ⟨hE, hB, hml, hown, hts, hK, hA⟩ := id K
  obtain ⟨C', T', M', r, hMX, hMM, hRl'⟩ := op_digest hRl 
  have hbA : ¬ (fun q : Nat => s.heap.size ≤ q) b := Nat.not_le.mpr hbl
  refine lv_aload_n hE hB dL_law_483 rfl (lv_at hl 1 rfl) ?_
  refine g_calliL (o := o) (q0 := 0) (ci := 0) (n := 0) (As := []) (rest := []) (wc := wX o a d C T) (wr := wM o2 a2 d2 M) (w1 := wX o a d C' T') (tysC := tysX d) K hI [0, 1, 2, 3, 4, 5, 6, 7, 8, 9, 10] [11, 12, 13, 14, 15, 16] [0, 1, 2, 3, 4, 5, 6, 7, 8, 9] (hMX l D o a d) rfl rfl rfl rfl (by decide) (by decide) (by decide) (lw_V q186 q187 q188 q22 q189) (by decide +kernel) ⟨rfl, rfl⟩ rfl rfl rfl rfl rfl hl.1 ⟨Nat.le_of_ble_eq_true rfl, Nat.le_of_ble_eq_true rfl⟩ (Nat.le_of_ble_eq_true rfl) ⟨Nat.le_of_ble_eq_true rfl, Nat.le_of_ble_eq_true rfl⟩ dL_law_484 (fun H locs hI => ?_)
  refine lv_aload_n hE hB dL_law_487 rfl (lv_at hl 2 rfl) ?_
  refine g_calliL (o := o2) (q0 := 0) (ci := 1) (n := 0) (As := []) (rest := [.int r]) (wc := wM o2 a2 d2 M) (wr := wX o a d C' T') (w1 := wM o2 a2 d2 M') (tysC := tysM d2) K hI [0, 1, 2, 3, 4, 5] [6, 7, 8, 9, 10, 11, 12, 13, 14, 15, 16] [10, 11, 12, 13, 14] (hMM l D o2 a2 d2) rfl rfl rfl rfl (by decide) (by decide) (by decide) (lw_V q290 q291 q292 q23 q293) (by decide +kernel) ⟨rfl, rfl⟩ rfl rfl rfl rfl rfl hl.1 ⟨Nat.le_of_ble_eq_true rfl, Nat.le_of_ble_eq_true rfl⟩ (Nat.le_of_ble_eq_true rfl) ⟨Nat.le_of_ble_eq_true rfl, Nat.le_of_ble_eq_true rfl⟩ dL_law_488 (fun H locs hI => ?_)
  exact lv_icmp_eq (tgt := 496) hE hB dL_law_491 (by decide) (fun _ => cont C' T' M' H locs hRl' hI) (fun h => absurd rfl h)
end
section
set_option maxHeartbeats 4000000 in
set_option maxRecDepth 100000 in
theorem law_loop {p : Program} {l : Launch} {e : Env} {s : State} {m : MethodId} {below : List Frame} {meth : Method} {cd : Code} {D : va_G} {b L : Nat} {xs : Nat → Int32} {o o2 : Nat} {a a2 : Nat → Nat} {d d2 : Nat → ClassId} (hL : L ≤ 256) (K : GC R_law (tysX d ++ tysM d2) D (fun q : Nat => s.heap.size ≤ q) p s m #[Value.ref b] cd code 4) (hX : va_X b L xs s s.heap) (hbl : b < s.heap.size) (hr : meth.sig.returnType = ret) (hlocks : meth.locks = false) : ∀ (n i : Nat) (C : CS) (T : TS) (M : MS) (H : Heap) (locs : List Loc) (ls : Array Slot), i ≤ L → L + 1 ≤ i + n → Rel C T M → GI D (fun q : Nat => s.heap.size ≤ q) s.heap (wX o a d C T ++ wM o2 a2 d2 M) H locs → lv_has ls 4 [(0, .ref b), (1, .ref o), (2, .ref o2), (3, .int (nI i))] → W p l e room_1 s m #[Value.ref b] below meth cd H locs 17 811 (lw_Z below #[Value.ref b] s) (F0 m 18 ls []) := by
  obtain ⟨hE, hB, hml, hown, hts, hK, hA⟩ := id K
  have hbA : ¬ (fun q : Nat => s.heap.size ≤ q) b := Nat.not_le.mpr hbl
  intro n
  induction n with
  | zero =>
    intro i C T M H locs ls h1 h2
    exact absurd h2 (by omega)
  | succ n ih =>
    intro i C T M H locs ls hiL hin hRl hI hl
    refine lv_iload_n hE hB dL_law_18 rfl (lv_at hl 3 rfl) ?_
    refine lv_aload_n hE hB dL_law_19 rfl (lv_at hl 0 rfl) ?_
    refine va_slen hE hB hX hbl hbA hI.2.2 dL_law_20 ?_
    refine lv_iconst (v := nI 4) hE hB dL_law_21 (by decide) ?_
    refine lv_isub hE hB dL_law_22 ?_
    refine lv_icmp_gt (tgt := 502) hE hB dL_law_23 (by decide) (fun h_23 => ?_) (fun h_23 => ?_)
    · refine lv_iconst (v := 1) hE hB dL_law_502 (by decide) ?_
      refine va_forget (fun q hq => hI.2.2.2.2 q hq) ?_
      refine W.widen (k := 600000) (n := 7290000) (Nat.le_of_ble_eq_true rfl) (Nat.le_of_ble_eq_true rfl) ?_
      exact lw_ret hE hB hr hlocks dL_law_503
    · have hi4 : i + 4 ≤ L := law_le hL hiL h_23
      have cont : (∀ (C : CS) (T : TS) (M : MS) (H : Heap) (locs : List Loc), Rel C T M → GI D (fun q : Nat => s.heap.size ≤ q) s.heap (wX o a d C T ++ wM o2 a2 d2 M) H locs → W p l e room_1 s m #[Value.ref b] below meth cd H locs 17 811 (lw_Z below #[Value.ref b] s) (F0 m 496 ls [])) := by
        intro C T M H locs hRl hI
        refine lv_iinc (v := nI (i + 4)) (lv' := [(3, .int (nI (i + 4))), (0, .ref b), (1, .ref o), (2, .ref o2)]) hE hB dL_law_496 hl (k := 3) rfl (nI_add i 4) (by decide) rfl (fun ls hl => ?_)
        refine lv_goto (tgt := 18) hE hB dL_law_499 (by decide) ?_
        exact ih (i + 4) C T M H locs ls hi4 (by omega) hRl hI (lv_sub hl [1, 2, 3, 0] rfl)
      refine lv_aload_n hE hB dL_law_26 rfl (lv_at hl 0 rfl) ?_
      refine lv_iload_n hE hB dL_law_27 rfl (lv_at hl 3 rfl) ?_
      refine s_ld hE hB hX hbl hbA hI.2.2 (k := i) (by omega) hL dL_law_28 ?_
      refine lv_bipush (v := nI 15) hE hB dL_law_29 (by decide) ?_
      refine lv_iand hE hB dL_law_31 ?_
      obtain ⟨j, hj, ej⟩ := pk_andE (xs i) (m := nI 15) 4 (by decide)
      refine n_top (y := nI j) ej ?_
      have hj : j < 16 := hj
      clear ej
      rcases x16 hj with rfl | rfl | rfl | rfl | rfl | rfl | rfl | rfl | rfl | rfl | rfl | rfl | rfl | rfl | rfl | rfl
      · refine lv_tableIn (off := 72) (tgt := 104) hE hB dL_law_32 (by decide) (by decide) rfl (by decide) ?_
        exact lop_begin hL K hX hbl hi4 hRl hI hl cont
      · refine lv_tableIn (off := 95) (tgt := 127) hE hB dL_law_32 (by decide) (by decide) rfl (by decide) ?_
        exact lop_read hL K hX hbl hi4 hRl hI hl cont
      · refine lv_tableIn (off := 128) (tgt := 160) hE hB dL_law_32 (by decide) (by decide) rfl (by decide) ?_
        exact lop_sees hL K hX hbl hi4 hRl hI hl cont
      · refine lv_tableIn (off := 161) (tgt := 193) hE hB dL_law_32 (by decide) (by decide) rfl (by decide) ?_
        exact lop_write hL K hX hbl hi4 hRl hI hl cont
      · refine lv_tableIn (off := 204) (tgt := 236) hE hB dL_law_32 (by decide) (by decide) rfl (by decide) ?_
        exact lop_add hL K hX hbl hi4 hRl hI hl cont
      · refine lv_tableIn (off := 247) (tgt := 279) hE hB dL_law_32 (by decide) (by decide) rfl (by decide) ?_
        exact lop_end hL K hX hbl hi4 hRl hI hl cont
      · refine lv_tableIn (off := 270) (tgt := 302) hE hB dL_law_32 (by decide) (by decide) rfl (by decide) ?_
        exact lop_giveUp hL K hX hbl hi4 hRl hI hl cont
      · refine lv_tableIn (off := 293) (tgt := 325) hE hB dL_law_32 (by decide) (by decide) rfl (by decide) ?_
        exact lop_giveAllUp hL K hX hbl hi4 hRl hI hl cont
      · refine lv_tableIn (off := 316) (tgt := 348) hE hB dL_law_32 (by decide) (by decide) rfl (by decide) ?_
        exact lop_level hL K hX hbl hi4 hRl hI hl cont
      · refine lv_tableIn (off := 339) (tgt := 371) hE hB dL_law_32 (by decide) (by decide) rfl (by decide) ?_
        exact lop_committed hL K hX hbl hi4 hRl hI hl cont
      · refine lv_tableIn (off := 362) (tgt := 394) hE hB dL_law_32 (by decide) (by decide) rfl (by decide) ?_
        exact lop_readBy hL K hX hbl hi4 hRl hI hl cont
      · refine lv_tableIn (off := 385) (tgt := 417) hE hB dL_law_32 (by decide) (by decide) rfl (by decide) ?_
        exact lop_writtenBy hL K hX hbl hi4 hRl hI hl cont
      · refine lv_tableIn (off := 408) (tgt := 440) hE hB dL_law_32 (by decide) (by decide) rfl (by decide) ?_
        exact lop_rivals hL K hX hbl hi4 hRl hI hl cont
      · refine lv_tableIn (off := 451) (tgt := 483) hE hB dL_law_32 (by decide) (by decide) rfl (by decide) ?_
        exact lop_digest hL K hX hbl hi4 hRl hI hl cont
      · refine lv_tableOut (tgt := 496) hE hB dL_law_32 (by decide) (by decide) ?_
        exact cont C T M H locs hRl hI
      · refine lv_tableOut (tgt := 496) hE hB dL_law_32 (by decide) (by decide) ?_
        exact cont C T M H locs hRl hI
set_option maxHeartbeats 4000000 in
set_option maxRecDepth 100000 in
theorem whole_start {p : Program} {e : Env} {s : State} {m : MethodId} {below : List Frame} {meth : Method} {c : Code} (l : Launch) {b L : Nat} {xs : Nat → Int32} (hL : L ≤ 256) (CA : lw_At p s m meth c b L xs) : W p l e room_1 s m #[Value.ref b] below meth c s.heap [] 0 0 (lw_Z below #[Value.ref b] s) (entryFrame m ([Value.ref b] : List Value).toArray 4) := by
  obtain ⟨hE, hB, hr, hml, hown, hts0, hX, hbl, hlocks, hgv⟩ := CA
  have hts : ∀ w ∈ lw_all, w.before #[Value.ref b] s = true := fun w h => hts0 w (lw_all_tbl h)
  have hA : ∀ q : Nat, s.heap.size ≤ q → (fun q : Nat => s.heap.size ≤ q) q := fun _ h => h
  obtain ⟨c0, iS0, hKn0⟩ := u_known (C := RX0) (T := TX0) (N := 10) (n := 10) hts in_X0 (hts _ q25)
  obtain ⟨c1, iS1, hKn1⟩ := u_known (C := RX1) (T := TX1) (N := 5) (n := 5) hts in_X1 (hts _ q191)
  obtain ⟨D, hKc⟩ : ∃ D : va_G, ∀ (k : Nat) (q : vw_C), vwCl[k]? = some q → u_Kn s q.1 q.2.1 q.2.2 (D.1 k) (D.2 k) := by
    refine ⟨(fun k => if k = 0 then c0 else c1, fun k => if k = 0 then iS0 else iS1), ?_⟩
    intro k q hq
    match k, hq with
    | 0, hq => cases hq; exact hKn0
    | 1, hq => cases hq; exact hKn1
    | k + 2, hq => simp [vwCl] at hq
  have hS : va_S (fun q : Nat => s.heap.size ≤ q) s.heap s.heap [] := va_S.rf
  have hK : va_K D vwCl [] s := ⟨hKc, fun k q h => by simp at h⟩
  have hKc0 := hK
  have hP : va_P D vwCl [] s.heap := fun k q h => by simp at h
  have hD : va_D (fun q : Nat => s.heap.size ≤ q) [] := ⟨fun i j p q h => by simp at h, fun k q h => by simp at h⟩
  have hl := lv_entry ([.ref b]) (n := 4) (Nat.le_of_ble_eq_true rfl)
  rw [lg_entry_eq]
  generalize (lg_sl ([.ref b]) ++ List.replicate (4 - (lg_sl ([.ref b])).length) Slot.unset).toArray = ls at hl ⊢
  have hl : lv_has ls 4 [(0, .ref b)] := hl
  refine va_new (ci := 0) (fs := [.null, .null, .null, .null, .null, .null, .null, .null, .null, .null]) (C := RX0) (T := TX0) (N := 10) hE hB hts in_X0 tyX0 tyX0_ok hown (hts _ q24) (hts _ q25) (hts _ q22) hK hP hD hS hA rfl (fun j hj => by rcases (show j = 0 ∨ j = 1 ∨ j = 2 ∨ j = 3 ∨ j = 4 ∨ j = 5 ∨ j = 6 ∨ j = 7 ∨ j = 8 ∨ j = 9 by omega) with rfl | rfl | rfl | rfl | rfl | rfl | rfl | rfl | rfl | rfl <;> rfl) (Nat.le_of_ble_eq_true rfl) (Nat.le_of_ble_eq_true rfl) dL_law_0 (fun o H hP hD hS => ?_)
  have hP : va_P D vwCl [(o, .inr (0, [.null, .null, .null, .null, .null, .null, .null, .null, .null, .null]))] H := hP
  have hD : va_D (fun q : Nat => s.heap.size ≤ q) [(o, .inr (0, [.null, .null, .null, .null, .null, .null, .null, .null, .null, .null]))] := hD
  refine W.widen (k := 1) (n := 10) (by omega) (by omega) ?_
  refine lv_dup hE hB dL_law_3 rfl ?_
  have hPc := hP
  have hDc := hD
  have hFc := va_free (wc := [(o, .inr (0, [.null, .null, .null, .null, .null, .null, .null, .null, .null, .null]))]) hD hS hA [0] rfl
  refine va_callv (va_runI (As := []) (rest := [.ref o]) ⟨hE, hB, hml, hown, hts⟩ (met_X0_init (l := l) (D := D) (o := o) H.size) (cwI 0 hts (lw_meth q28) rfl rfl rfl (hts _ q22) (hts _ q26) (hts _ q27) rfl (by decide +kernel) ⟨Nat.le_of_ble_eq_true rfl, Nat.le_of_ble_eq_true rfl⟩) ⟨fun a U g mk q => by obtain ⟨q0, q1, qP, qK, qD⟩ := q; exact ⟨q0, q1, qP, va_K.moved (u := U) (U := U.calling g mk a) (Vm.Alike.refl U.vm) qK, qD⟩, fun U hU hW => ⟨rfl, by rw [hU], by rw [hU]; exact hPc, va_K.moved hW.alike hKc0, hDc.weaken (fun _ _ _ _ => trivial)⟩⟩ rfl rfl hl.1 rfl (lv_room (Nat.le_of_ble_eq_true rfl)) dL_law_4 ⟨Nat.le_of_ble_eq_true rfl, Nat.le_of_ble_eq_true rfl⟩) hS (fun q _ h => hFc q h) hFc (fun u t H1 locs ht hvm hw hB1 hz1 hk1 hS => ?_)
  obtain ⟨a, d⟩ := u
  obtain ⟨hP1, hK1, hD1⟩ := hB1
  rw [ht] at hP1
  have hK1 := va_K.moved hvm.symm hK1
  obtain ⟨hP, hD⟩ := va_join (wr := []) (w1 := wX o a d C0 T0) hP hD [0] [] rfl rfl (by decide) (by decide) hk1 hFc hP1 hD1
  have hK : va_K D vwCl (tysX d) s := hK1
  have hP : va_P D vwCl (wX o a d C0 T0) H1 := hP
  have hD : va_D (fun q : Nat => s.heap.size ≤ q) (wX o a d C0 T0) := hD
  clear hP1 hD1 hk1 hFc hPc hDc
  refine W.widen (k := 11) (n := 498) (by omega) (by omega) ?_
  refine lv_astore_n (lv' := [(1, .ref o), (0, .ref b)]) hE hB dL_law_7 rfl hl (by decide) rfl (fun ls hl => ?_)
  refine va_new (ci := 1) (fs := [.null, .null, .null, .null, .null]) (C := RX1) (T := TX1) (N := 5) hE hB hts in_X1 tyX1 tyX1_ok hown (hts _ q190) (hts _ q191) (hts _ q23) hK hP hD hS hA rfl (fun j hj => by rcases (show j = 0 ∨ j = 1 ∨ j = 2 ∨ j = 3 ∨ j = 4 by omega) with rfl | rfl | rfl | rfl | rfl <;> rfl) (Nat.le_of_ble_eq_true rfl) (Nat.le_of_ble_eq_true rfl) dL_law_8 (fun o2 H hP hD hS => ?_)
  refine W.widen (k := 12) (n := 503) (by omega) (by omega) ?_
  refine lv_dup hE hB dL_law_11 rfl ?_
  have hPc := hP.sub (ws' := [(o2, .inr (1, [.null, .null, .null, .null, .null]))]) [11] rfl
  have hDc := hD.sub (ws' := [(o2, .inr (1, [.null, .null, .null, .null, .null]))]) [11] (by decide) rfl
  have hFc := va_free (wc := [(o2, .inr (1, [.null, .null, .null, .null, .null]))]) hD hS hA [11] rfl
  refine va_callv (va_runI (As := []) (rest := [.ref o2]) ⟨hE, hB, hml, hown, hts⟩ (met_X1_init (l := l) (D := D) (o := o2) H.size) (cwI 0 hts (lw_meth q194) rfl rfl rfl (hts _ q23) (hts _ q192) (hts _ q193) rfl (by decide +kernel) ⟨Nat.le_of_ble_eq_true rfl, Nat.le_of_ble_eq_true rfl⟩) ⟨fun a U g mk q => by obtain ⟨q0, q1, qP, qK, qD⟩ := q; exact ⟨q0, q1, qP, va_K.moved (u := U) (U := U.calling g mk a) (Vm.Alike.refl U.vm) qK, qD⟩, fun U hU hW => ⟨rfl, by rw [hU], by rw [hU]; exact hPc, va_K.moved hW.alike hKc0, hDc.weaken (fun _ _ _ _ => trivial)⟩⟩ rfl rfl hl.1 rfl (lv_room (Nat.le_of_ble_eq_true rfl)) dL_law_12 ⟨Nat.le_of_ble_eq_true rfl, Nat.le_of_ble_eq_true rfl⟩) hS (fun q _ h => hFc q h) hFc (fun u t H2 locs ht hvm hw hB1 hz1 hk1 hS => ?_)
  obtain ⟨a2, d2⟩ := u
  obtain ⟨hP1, hK1, hD1⟩ := hB1
  rw [ht] at hP1
  have hK1 := va_K.moved hvm.symm hK1
  obtain ⟨hP, hD⟩ := va_join (wr := wX o a d C0 T0) (w1 := wM o2 a2 d2 M0) hP hD [11] [0, 1, 2, 3, 4, 5, 6, 7, 8, 9, 10] rfl rfl (by decide) (by decide) hk1 hFc hP1 hD1
  have hK : va_K D vwCl (tysX d ++ tysM d2) s := hK.app hK1
  refine W.widen (k := 17) (n := 811) (by omega) (by omega) ?_
  refine lv_astore_n (lv' := [(2, .ref o2), (1, .ref o), (0, .ref b)]) hE hB dL_law_15 rfl hl (by decide) rfl (fun ls hl => ?_)
  refine lv_iconst (v := nI 0) hE hB dL_law_16 (by decide) ?_
  refine lv_istore_n (lv' := [(3, .int (nI 0)), (2, .ref o2), (1, .ref o), (0, .ref b)]) hE hB dL_law_17 rfl hl (by decide) rfl (fun ls hl => ?_)
  exact law_loop hL ⟨hE, hB, hml, hown, hts, hK, hA⟩ hX hbl hr hlocks (L + 1) 0 C0 T0 M0 _ _ ls (Nat.zero_le L) (by omega) Rel_0 ⟨hP, hD, hS⟩ (lv_sub hl [3, 2, 1, 0] rfl)
end
section
set_option maxHeartbeats 4000000 in
theorem lw_walk (l : Launch) (b : Addr) (xs : List Int32) : MetFree l x (headSpec (Jvm.Cond.code x code maxLocals ret :: tables_1) room_1) (lw_P b xs) (fun _ _ _ _ _ => True) lw_Q := by
  refine MetFree.of_bodyS (code := code) (maxLocals := maxLocals) (ret := ret) (by decide) ?_ ?_
  · intro args s m h hn
    obtain ⟨meth, c, h1, h2, h3, h4, h5, h6, -, -⟩ := Cond.code_spec hn (atoms_spec (ws := Jvm.Cond.code x code maxLocals ret :: tables_1) h _ List.mem_cons_self)
    exact ⟨meth, c, h1, h2, h3, h4, h5, h6⟩
  · intro p e s m args below meth c s₁ B hml0 hP _
    obtain ⟨rfl, hx, hbd, hgv⟩ := hP
    obtain ⟨scr, harrAt, hlist, hof, hsmall⟩ := hx
    obtain ⟨hcb, hkn, -, -⟩ := State.arrayAt?_spec harrAt
    have hown : s.vm.findClass R_law = some m.cls := findClass_of_methodNamed B.named
    have hts0 : ∀ c ∈ (Jvm.Cond.code x code maxLocals ret :: tables_1), c.before #[Value.ref b] s = true := atoms_spec (ws := Jvm.Cond.code x code maxLocals ret :: tables_1) B.pre
    have hts : ∀ w ∈ lw_tbl, w.before #[Value.ref b] s = true := k2_hts_sels lw_privs (fun w hw => hts0 w (List.mem_cons_of_mem _ hw)) lw_privs_ok
    have hml : c.maxLocals = 4 := B.maxLocals_eq (hts0 _ List.mem_cons_self)
    have X₀ : Stand p l e room_1 s m #[Value.ref b] below meth c s₁ [] 0 0 := Stand.of_body B
    have hh0 : s₁.heap = s.heap := by rw [B.state]; rfl
    have hsz : scr.slots.size = xs.length := by rw [← Array.length_toList, hlist, List.length_map]
    have hval : ∀ j : Nat, j < xs.length → scr.slots[j]? = some (.int (xs.getD j 0)) := fun j hj => by
      rw [← Array.getElem?_toList, hlist]
      simp [hj]
    have hbl : b < s.heap.size := (Array.getElem?_eq_some_iff.mp hcb).1
    have hX : va_X b xs.length (fun j => xs.getD j 0) s s.heap := ⟨scr, hcb, hof, hkn, hsz, hval⟩
    have K : W p l e room_1 s m #[Value.ref b] below meth c s₁.heap [] 0 0 (lw_Z below #[Value.ref b] s) (entryFrame m ([Value.ref b] : List Value).toArray 4) := by
      rw [hh0]
      exact whole_start l hbd ⟨B.exec, B.bytes, B.returns, hml, hown, hts, hX, hbl, B.notSynchronized, hgv⟩
    obtain ⟨t, a1, o, b1, b2, b3⟩ := K s₁ rfl X₀
    exact ⟨t, o, a1, b1, b2, b3⟩
theorem lw_pre_spec {args : Array Value} {s : State} (h : (Jvm.Cond.and given_1 narrow_1).before args s = true) (hr : rest_1_c.before args s = true) : ∃ (b : Addr) (xs : List Int32), lw_P b xs args s := by
  have hs := flat_of_before _ h
  have hq := flat_of_before _ hr
  have hc : (Cond.count 1).before args s = true := hs _ (by decide +kernel)
  have harr : (Cond.arrayOf (.arg 0) .int).before args s = true := hs _ (by decide +kernel)
  have hle : (Cond.le (.length (.arg 0)) (.int 256)).before args s = true := hs _ (by decide +kernel)
  have hlen : (Cond.isInt (.length (.arg 0))).before args s = true := hq _ (by decide +kernel)
  have hall : (Cond.all (.arg 0) (.isInt (.elem (.arg 0) (.index 0)))).before args s = true := hq _ (by decide +kernel)
  obtain ⟨b, xs, hb, hx⟩ := State.ints_of_pre rfl harr hlen hall
  have hsm : xs.length < 2 ^ 31 := hx.choose_spec.2.2.2
  have hev : (Term.length (.arg 0)).eval args s none [] s = some (.int xs.length.toInt32) := hx.length_eval hb
  have hv := Cond.le_ints hev (show (Term.int 256).eval args s none [] s = some (.int 256) from rfl)
  have hd : xs.length.toInt32 ≤ 256 := by
    simpa [Cond.before, Cond.holds, hv] using hle
  have hN : xs.length ≤ 256 := (Int32.ofNat_le_ofNat hsm (by decide)).mp (show Int32.ofNat xs.length ≤ Int32.ofNat 256 from hd)
  exact ⟨b, xs, Cond.one_arg hc (show args[0]? = some (.ref b) from hb), hx, hN, h⟩
theorem lw_comes (l : Launch) : Comes l x (Jvm.Cond.code x code maxLocals ret :: tables_1) room_1 (fun tb e args s => Calls_1 tb e args s ∧ rest_1 tb e args s ∧ Pre_1 tb e args s)
    (fun _ _ args s o t => lw_Q args s o t) := by
  intro p e ha hc hk s m args below hf hfit hheap happ hpre
  obtain ⟨b, xs, hP⟩ := lw_pre_spec hpre.2.2 hpre.2.1
  obtain ⟨k, o, h1, h2, h3, hQ⟩ := lw_walk l b xs p e ha hc hk s m args below hf ((Spec.applies_iff_loose hf).mp happ).1 hP trivial
  exact ⟨k, o, h1, h2, h3, hQ⟩
theorem lw_frame {s t : State} {o : Outcome} {args : Array Value} (h : Framed s o t [] 600000 7290000) :
    Framed s o t (fieldLocs frame_1_writes args s ++ arrayLocs frame_1_arrays args s ++ staticLocs frame_1_statics s) 600000 7290000 := h
theorem lw_limb (L : Cond) (hL : ∀ (args : Array Value) (s t : State), L.after args s (.returned (some (.int 1))) t = true) :
    ArmFor flags0 classFile x code maxLocals ret World_1 tables_1 room_1 Calls_1 rest_1 Pre_1
      (fun tb e a s o t => postC L tb e a s o t ∧ Framed s o t (fieldLocs frame_1_writes a s ++ arrayLocs frame_1_arrays a s ++ staticLocs frame_1_statics s) 600000 7290000) := by
  intro l _ _ _ p e ha hc hk s m args below hf hfit hheap happ hpre
  obtain ⟨k, o, h1, h2, h3, rfl, hF⟩ := lw_comes l p e ha hc hk s m args below hf hfit hheap happ hpre
  exact ⟨k, _, h1, h2, h3, hL args s _, lw_frame hF⟩
theorem i_vc : Claimed_1_1 ∧ Claimed_1_2 := ⟨lw_limb limb_1_1 (fun args s t => by simp [limb_1_1, Cond.after, Cond.holds, Cond.value]), lw_limb limb_1_2 (fun args s t => Cond.after_iff.mpr (by
  first | (rw [show limb_1_2 = Cond.eq .result (.int 1) from rfl, Cond.eq_ints (x := 1) (y := 1) rfl rfl]; simp; done) | (simp [limb_1_2, Cond.value, Term.eval]; done)))⟩
end
