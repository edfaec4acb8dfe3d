section
-- ===== PART A: goes FIRST, ahead of the names: the tables' words, and 'selects' of the private methods out of them =====
/-- a private method of a class that the tables say can be made, by its rows of tables_1 -/
def lw_okq (q : MethodName × Nat) : Prop := (q.1.cls ≠ "java/lang/invoke/MethodHandle" ∧ q.1.cls ≠ "java/lang/invoke/VarHandle") ∧ Cond.instantiable q.1.cls q.2 ∈ tables_1 ∧ Cond.privateMethod q.1 ∈ tables_1 ∧ Cond.instanceMethod q.1 ∈ tables_1
set_option maxRecDepth 100000
theorem lw_t1 {w : Cond} (h : w ∈ tables_1_1) : w ∈ tables_1 := List.mem_append_left _ h
theorem lw_t2 {w : Cond} (h : w ∈ tables_1_2) : w ∈ tables_1 := List.mem_append_right _ h
theorem lw_p0 : lw_okq (⟨"UndoReader", "lockOf", "(I)I"⟩, 18) := ⟨⟨by decide +kernel, by decide +kernel⟩, lw_t1 (List.mem_of_getElem? (i := 4) rfl), lw_t1 (List.mem_of_getElem? (i := 79) rfl), lw_t1 (List.mem_of_getElem? (i := 80) rfl)⟩
theorem lw_p1 : lw_okq (⟨"UndoReader", "isOpen", "(I)Z"⟩, 18) := ⟨⟨by decide +kernel, by decide +kernel⟩, lw_t1 (List.mem_of_getElem? (i := 4) rfl), lw_t1 (List.mem_of_getElem? (i := 83) rfl), lw_t1 (List.mem_of_getElem? (i := 84) rfl)⟩
theorem lw_p2 : lw_okq (⟨"UndoReader", "forgetFirst", "()V"⟩, 18) := ⟨⟨by decide +kernel, by decide +kernel⟩, lw_t1 (List.mem_of_getElem? (i := 4) rfl), lw_t1 (List.mem_of_getElem? (i := 87) rfl), lw_t1 (List.mem_of_getElem? (i := 88) rfl)⟩
theorem lw_p3 : lw_okq (⟨"UndoReader", "unlink", "(I)V"⟩, 18) := ⟨⟨by decide +kernel, by decide +kernel⟩, lw_t1 (List.mem_of_getElem? (i := 4) rfl), lw_t1 (List.mem_of_getElem? (i := 91) rfl), lw_t1 (List.mem_of_getElem? (i := 92) rfl)⟩
theorem lw_p4 : lw_okq (⟨"UndoReader", "open", "(I)V"⟩, 18) := ⟨⟨by decide +kernel, by decide +kernel⟩, lw_t1 (List.mem_of_getElem? (i := 4) rfl), lw_t1 (List.mem_of_getElem? (i := 95) rfl), lw_t1 (List.mem_of_getElem? (i := 96) rfl)⟩
theorem lw_p5 : lw_okq (⟨"UndoReader", "freePlace", "()I"⟩, 18) := ⟨⟨by decide +kernel, by decide +kernel⟩, lw_t1 (List.mem_of_getElem? (i := 4) rfl), lw_t1 (List.mem_of_getElem? (i := 99) rfl), lw_t1 (List.mem_of_getElem? (i := 100) rfl)⟩
theorem lw_p6 : lw_okq (⟨"UndoReader", "note", "(II)V"⟩, 18) := ⟨⟨by decide +kernel, by decide +kernel⟩, lw_t1 (List.mem_of_getElem? (i := 4) rfl), lw_t1 (List.mem_of_getElem? (i := 103) rfl), lw_t1 (List.mem_of_getElem? (i := 104) rfl)⟩
theorem lw_p7 : lw_okq (⟨"UndoReader", "seen", "(II)I"⟩, 18) := ⟨⟨by decide +kernel, by decide +kernel⟩, lw_t1 (List.mem_of_getElem? (i := 4) rfl), lw_t1 (List.mem_of_getElem? (i := 123) rfl), lw_t1 (List.mem_of_getElem? (i := 124) rfl)⟩
theorem lw_p8 : lw_okq (⟨"UndoReader", "isAfter", "(II)Z"⟩, 18) := ⟨⟨by decide +kernel, by decide +kernel⟩, lw_t1 (List.mem_of_getElem? (i := 4) rfl), lw_t1 (List.mem_of_getElem? (i := 128) rfl), lw_t1 (List.mem_of_getElem? (i := 129) rfl)⟩
theorem lw_p9 : lw_okq (⟨"UndoReaderModel", "session", "(I)Z"⟩, 11) := ⟨⟨by decide +kernel, by decide +kernel⟩, lw_t1 (List.mem_of_getElem? (i := 160) rfl), lw_t1 (List.mem_of_getElem? (i := 205) rfl), lw_t1 (List.mem_of_getElem? (i := 206) rfl)⟩
theorem lw_p10 : lw_okq (⟨"UndoReaderModel", "isRow", "(I)Z"⟩, 11) := ⟨⟨by decide +kernel, by decide +kernel⟩, lw_t1 (List.mem_of_getElem? (i := 160) rfl), lw_t1 (List.mem_of_getElem? (i := 209) rfl), lw_t1 (List.mem_of_getElem? (i := 210) rfl)⟩
theorem lw_p11 : lw_okq (⟨"UndoReaderModel", "oldestKept", "()I"⟩, 11) := ⟨⟨by decide +kernel, by decide +kernel⟩, lw_t1 (List.mem_of_getElem? (i := 160) rfl), lw_t1 (List.mem_of_getElem? (i := 217) rfl), lw_t1 (List.mem_of_getElem? (i := 218) rfl)⟩
theorem lw_p12 : lw_okq (⟨"UndoReaderModel", "release", "(I)V"⟩, 11) := ⟨⟨by decide +kernel, by decide +kernel⟩, lw_t1 (List.mem_of_getElem? (i := 160) rfl), lw_t1 (List.mem_of_getElem? (i := 229) rfl), lw_t1 (List.mem_of_getElem? (i := 230) rfl)⟩
theorem lw_p13 : lw_okq (⟨"UndoReaderModel", "valueAt", "(II)I"⟩, 11) := ⟨⟨by decide +kernel, by decide +kernel⟩, lw_t1 (List.mem_of_getElem? (i := 160) rfl), lw_t2 (List.mem_of_getElem? (i := 6) rfl), lw_t2 (List.mem_of_getElem? (i := 7) rfl)⟩
def lw_privs_1 : List (MethodName × Nat) := [(⟨"UndoReader", "lockOf", "(I)I"⟩, 18), (⟨"UndoReader", "isOpen", "(I)Z"⟩, 18), (⟨"UndoReader", "forgetFirst", "()V"⟩, 18), (⟨"UndoReader", "unlink", "(I)V"⟩, 18), (⟨"UndoReader", "open", "(I)V"⟩, 18), (⟨"UndoReader", "freePlace", "()I"⟩, 18), (⟨"UndoReader", "note", "(II)V"⟩, 18), (⟨"UndoReader", "seen", "(II)I"⟩, 18), (⟨"UndoReader", "isAfter", "(II)Z"⟩, 18), (⟨"UndoReaderModel", "session", "(I)Z"⟩, 11), (⟨"UndoReaderModel", "isRow", "(I)Z"⟩, 11), (⟨"UndoReaderModel", "oldestKept", "()I"⟩, 11), (⟨"UndoReaderModel", "release", "(I)V"⟩, 11), (⟨"UndoReaderModel", "valueAt", "(II)I"⟩, 11)]
theorem lw_r1 : ∀ q ∈ lw_privs_1, lw_okq q := List.forall_mem_cons.mpr ⟨lw_p0, List.forall_mem_cons.mpr ⟨lw_p1, List.forall_mem_cons.mpr ⟨lw_p2, List.forall_mem_cons.mpr ⟨lw_p3, List.forall_mem_cons.mpr ⟨lw_p4, List.forall_mem_cons.mpr ⟨lw_p5, List.forall_mem_cons.mpr ⟨lw_p6, List.forall_mem_cons.mpr ⟨lw_p7, List.forall_mem_cons.mpr ⟨lw_p8, List.forall_mem_cons.mpr ⟨lw_p9, List.forall_mem_cons.mpr ⟨lw_p10, List.forall_mem_cons.mpr ⟨lw_p11, List.forall_mem_cons.mpr ⟨lw_p12, List.forall_mem_cons.mpr ⟨lw_p13, fun _ h => absurd h List.not_mem_nil⟩⟩⟩⟩⟩⟩⟩⟩⟩⟩⟩⟩⟩⟩
def lw_privs : List (MethodName × Nat) := lw_privs_1
def lw_tbl : List Cond := k2_sels lw_privs ++ tables_1
theorem lw_privs_ok : ∀ q ∈ lw_privs, lw_okq q := lw_r1
-- ===== ONE list of words for every method: the tables' words that hold all through a run =====
def lw_all : List Cond := lw_tbl.filter goodWord
/-- a word of the tables by its place: claim/WORDS.tsv -/
theorem lw_w {w : Cond} (i : Nat) (h : lw_tbl[i]? = some w) (g : goodWord w = true) : w ∈ lw_all := List.mem_filter.mpr ⟨List.mem_of_getElem? h, g⟩
theorem lw_all_tbl {w : Cond} (h : w ∈ lw_all) : w ∈ lw_tbl := (List.mem_filter.mp h).1
theorem lw_self : GoodIn lw_all lw_all := fun w h => ⟨h, good_of_word (List.mem_filter.mp h).2⟩
/-- a class's field words, by their places -/
theorem lw_in (ws : List Cond) (ps : List Nat) (hp : ws = ps.filterMap (fun i => lw_tbl[i]?)) (hg : ws.all goodWord = true) : ∀ w ∈ ws, w ∈ lw_all := by
  intro w h
  have h1 := List.all_eq_true.mp hg w h
  rw [hp] at h
  obtain ⟨i, -, hi⟩ := List.mem_filterMap.mp h
  exact lw_w i hi h1
/-- the words of a contract for the method y with code b, L locals, answer r -/
abbrev ws_ (y : MethodName) (b : ByteArray) (L : Nat) (r : Option FieldType) : List Cond := Cond.code y b L r :: lw_all
theorem lw_meth {y : MethodName} {b : ByteArray} {L : Nat} {r : Option FieldType} (h : Cond.code y b L r ∈ lw_all) : GoodIn lw_all (ws_ y b L r) := by
  intro w hw
  rcases List.mem_cons.mp hw with e | e
  · rw [e]
    exact lw_self _ h
  · exact lw_self _ e
theorem lw_app {a c : List Cond} (ha : ∀ w ∈ a, w ∈ lw_all) (hc : GoodIn lw_all c) : GoodIn lw_all (a ++ c) := by
  intro w hw
  rcases List.mem_append.mp hw with e | e
  · exact lw_self w (ha w e)
  · exact hc w e
/-- what a call through an object asks: cwV n hts (lw_V ..) -/
theorem lw_V {own : String} {idx : Nat} {C : String} {y : MethodName} {b : ByteArray} {L : Nat} {r : Option FieldType} (h1 : Cond.methodLink own idx y ∈ lw_all) (h2 : Cond.instanceMethod y ∈ lw_all) (h3 : Cond.selects C y y ∈ lw_all) (h4 : Cond.initialized C ∈ lw_all) (h5 : Cond.code y b L r ∈ lw_all) : GoodIn lw_all (wsV own idx C y (ws_ y b L r)) := by
  refine lw_app ?_ (lw_meth h5)
  intro w hw
  simp only [List.mem_cons, List.not_mem_nil, or_false] at hw
  rcases hw with e | e | e | e
  · rw [e]; exact h1
  · rw [e]; exact h2
  · rw [e]; exact h3
  · rw [e]; exact h4
/-- what a static call asks: va_cwS n hts (lw_S ..) -/
theorem lw_S {own : String} {idx : Nat} {y : MethodName} {b : ByteArray} {L : Nat} {r : Option FieldType} (h1 : Cond.methodLink own idx y ∈ lw_all) (h2 : Cond.static y ∈ lw_all) (h3 : Cond.initialized y.cls ∈ lw_all) (h4 : Cond.code y b L r ∈ lw_all) : GoodIn lw_all (va_wsS own idx y (ws_ y b L r)) := by
  refine lw_app ?_ (lw_meth h4)
  intro w hw
  simp only [List.mem_cons, List.not_mem_nil, or_false] at hw
  rcases hw with e | e | e
  · rw [e]; exact h1
  · rw [e]; exact h2
  · rw [e]; exact h3
/-- the words of a contract for a method WITH HANDLERS (hh: its table) -/
abbrev wsW_ (y : MethodName) (b : ByteArray) (L : Nat) (r : Option FieldType) (hh : List (Nat × Nat × Nat × Nat)) : List Cond := Cond.codeWith y b L r hh :: lw_all
theorem lw_methW {y : MethodName} {b : ByteArray} {L : Nat} {r : Option FieldType} {hh : List (Nat × Nat × Nat × Nat)} (h : Cond.codeWith y b L r hh ∈ lw_all) : GoodIn lw_all (wsW_ y b L r hh) := by
  intro w hw
  rcases List.mem_cons.mp hw with e | e
  · rw [e]
    exact lw_self _ h
  · exact lw_self _ e
/-- any list of words by their places (lw_in), good -/
theorem lw_good {ws : List Cond} (h : ∀ w ∈ ws, w ∈ lw_all) : GoodIn lw_all ws := fun w hw => lw_self w (h w hw)
/-- what a call of a method with handlers asks: vx_cwVW n hts (lw_VW ..), vx_cwSW n hts (lw_SW ..) -/
theorem lw_VW {own : String} {idx : Nat} {C : String} {y : MethodName} {b : ByteArray} {L : Nat} {r : Option FieldType} {hh : List (Nat × Nat × Nat × Nat)} (h1 : Cond.methodLink own idx y ∈ lw_all) (h2 : Cond.instanceMethod y ∈ lw_all) (h3 : Cond.selects C y y ∈ lw_all) (h4 : Cond.initialized C ∈ lw_all) (h5 : Cond.codeWith y b L r hh ∈ lw_all) : GoodIn lw_all (wsV own idx C y (wsW_ y b L r hh)) := by
  refine lw_app ?_ (lw_methW h5)
  intro w hw
  simp only [List.mem_cons, List.not_mem_nil, or_false] at hw
  rcases hw with e | e | e | e
  · rw [e]; exact h1
  · rw [e]; exact h2
  · rw [e]; exact h3
  · rw [e]; exact h4
theorem lw_SW {own : String} {idx : Nat} {y : MethodName} {b : ByteArray} {L : Nat} {r : Option FieldType} {hh : List (Nat × Nat × Nat × Nat)} (h1 : Cond.methodLink own idx y ∈ lw_all) (h2 : Cond.static y ∈ lw_all) (h3 : Cond.initialized y.cls ∈ lw_all) (h4 : Cond.codeWith y b L r hh ∈ lw_all) : GoodIn lw_all (va_wsS own idx y (wsW_ y b L r hh)) := by
  refine lw_app ?_ (lw_methW h4)
  intro w hw
  simp only [List.mem_cons, List.not_mem_nil, or_false] at hw
  rcases hw with e | e | e
  · rw [e]; exact h1
  · rw [e]; exact h2
  · rw [e]; exact h3
/-- a word by its place in its run of the tables -/
theorem lw_at {r : List Cond} (hr : ∀ w ∈ r, w ∈ lw_tbl) {w : Cond} (i : Nat) (h : r[i]? = some w) : w ∈ lw_tbl := hr w (List.mem_of_getElem? h)
theorem lw_g {w : Cond} (h : w ∈ lw_tbl) (g : goodWord w = true) : w ∈ lw_all := List.mem_filter.mpr ⟨h, g⟩
theorem lw_ms : ∀ w ∈ k2_sels lw_privs, w ∈ lw_tbl := fun w h => show w ∈ k2_sels lw_privs ++ tables_1 from List.mem_append_left _ h
theorem lw_m1 : ∀ w ∈ tables_1_1, w ∈ lw_tbl := fun w h => show w ∈ k2_sels lw_privs ++ tables_1 from List.mem_append_right (k2_sels lw_privs) (show w ∈ tables_1 from List.mem_append_left _ h)
theorem lw_m2 : ∀ w ∈ tables_1_2, w ∈ lw_tbl := fun w h => show w ∈ k2_sels lw_privs ++ tables_1 from List.mem_append_right (k2_sels lw_privs) (show w ∈ tables_1 from List.mem_append_right _ h)
theorem qs0 : (Cond.selects "UndoReader" ⟨"UndoReader", "lockOf", "(I)I"⟩ ⟨"UndoReader", "lockOf", "(I)I"⟩) ∈ lw_all := lw_g (lw_at lw_ms 0 rfl) rfl
theorem qs1 : (Cond.selects "UndoReader" ⟨"UndoReader", "isOpen", "(I)Z"⟩ ⟨"UndoReader", "isOpen", "(I)Z"⟩) ∈ lw_all := lw_g (lw_at lw_ms 1 rfl) rfl
theorem qs2 : (Cond.selects "UndoReader" ⟨"UndoReader", "forgetFirst", "()V"⟩ ⟨"UndoReader", "forgetFirst", "()V"⟩) ∈ lw_all := lw_g (lw_at lw_ms 2 rfl) rfl
theorem qs3 : (Cond.selects "UndoReader" ⟨"UndoReader", "unlink", "(I)V"⟩ ⟨"UndoReader", "unlink", "(I)V"⟩) ∈ lw_all := lw_g (lw_at lw_ms 3 rfl) rfl
theorem qs4 : (Cond.selects "UndoReader" ⟨"UndoReader", "open", "(I)V"⟩ ⟨"UndoReader", "open", "(I)V"⟩) ∈ lw_all := lw_g (lw_at lw_ms 4 rfl) rfl
theorem qs5 : (Cond.selects "UndoReader" ⟨"UndoReader", "freePlace", "()I"⟩ ⟨"UndoReader", "freePlace", "()I"⟩) ∈ lw_all := lw_g (lw_at lw_ms 5 rfl) rfl
theorem qs6 : (Cond.selects "UndoReader" ⟨"UndoReader", "note", "(II)V"⟩ ⟨"UndoReader", "note", "(II)V"⟩) ∈ lw_all := lw_g (lw_at lw_ms 6 rfl) rfl
theorem qs7 : (Cond.selects "UndoReader" ⟨"UndoReader", "seen", "(II)I"⟩ ⟨"UndoReader", "seen", "(II)I"⟩) ∈ lw_all := lw_g (lw_at lw_ms 7 rfl) rfl
theorem qs8 : (Cond.selects "UndoReader" ⟨"UndoReader", "isAfter", "(II)Z"⟩ ⟨"UndoReader", "isAfter", "(II)Z"⟩) ∈ lw_all := lw_g (lw_at lw_ms 8 rfl) rfl
theorem qs9 : (Cond.selects "UndoReaderModel" ⟨"UndoReaderModel", "session", "(I)Z"⟩ ⟨"UndoReaderModel", "session", "(I)Z"⟩) ∈ lw_all := lw_g (lw_at lw_ms 9 rfl) rfl
theorem qs10 : (Cond.selects "UndoReaderModel" ⟨"UndoReaderModel", "isRow", "(I)Z"⟩ ⟨"UndoReaderModel", "isRow", "(I)Z"⟩) ∈ lw_all := lw_g (lw_at lw_ms 10 rfl) rfl
theorem qs11 : (Cond.selects "UndoReaderModel" ⟨"UndoReaderModel", "oldestKept", "()I"⟩ ⟨"UndoReaderModel", "oldestKept", "()I"⟩) ∈ lw_all := lw_g (lw_at lw_ms 11 rfl) rfl
theorem qs12 : (Cond.selects "UndoReaderModel" ⟨"UndoReaderModel", "release", "(I)V"⟩ ⟨"UndoReaderModel", "release", "(I)V"⟩) ∈ lw_all := lw_g (lw_at lw_ms 12 rfl) rfl
theorem qs13 : (Cond.selects "UndoReaderModel" ⟨"UndoReaderModel", "valueAt", "(II)I"⟩ ⟨"UndoReaderModel", "valueAt", "(II)I"⟩) ∈ lw_all := lw_g (lw_at lw_ms 13 rfl) rfl
theorem q14 : (Jvm.Cond.initialized "UndoReaderLaw") ∈ lw_all := lw_g (lw_at lw_m1 0 rfl) rfl
set_option maxRecDepth 100000
theorem q17 : (Jvm.Cond.classLink "UndoReaderLaw" (7 : Nat) "UndoReader") ∈ lw_all := lw_g (lw_at lw_m1 3 rfl) rfl
theorem q19 : (Jvm.Cond.methodLink "UndoReaderLaw" (9 : Nat) ({ cls := "UndoReader", name := "<init>", desc := "()V" } : Jvm.MethodName)) ∈ lw_all := lw_g (lw_at lw_m1 5 rfl) rfl
theorem q82 : (Jvm.Cond.methodLink "UndoReaderLaw" (13 : Nat) ({ cls := "UndoReader", name := "change", desc := "(III)I" } : Jvm.MethodName)) ∈ lw_all := lw_g (lw_at lw_m1 68 rfl) rfl
theorem q120 : (Jvm.Cond.methodLink "UndoReaderLaw" (18 : Nat) ({ cls := "UndoReader", name := "commit", desc := "(I)I" } : Jvm.MethodName)) ∈ lw_all := lw_g (lw_at lw_m1 106 rfl) rfl
theorem q124 : (Jvm.Cond.methodLink "UndoReaderLaw" (23 : Nat) ({ cls := "UndoReader", name := "rollback", desc := "(I)I" } : Jvm.MethodName)) ∈ lw_all := lw_g (lw_at lw_m1 110 rfl) rfl
theorem q128 : (Jvm.Cond.methodLink "UndoReaderLaw" (27 : Nat) ({ cls := "UndoReader", name := "clock", desc := "()I" } : Jvm.MethodName)) ∈ lw_all := lw_g (lw_at lw_m1 114 rfl) rfl
theorem q132 : (Jvm.Cond.methodLink "UndoReaderLaw" (32 : Nat) ({ cls := "UndoReader", name := "read", desc := "(III)I" } : Jvm.MethodName)) ∈ lw_all := lw_g (lw_at lw_m1 118 rfl) rfl
theorem q145 : (Jvm.Cond.methodLink "UndoReaderLaw" (36 : Nat) ({ cls := "UndoReader", name := "raw", desc := "(I)I" } : Jvm.MethodName)) ∈ lw_all := lw_g (lw_at lw_m1 131 rfl) rfl
theorem q149 : (Jvm.Cond.methodLink "UndoReaderLaw" (40 : Nat) ({ cls := "UndoReader", name := "holder", desc := "(I)I" } : Jvm.MethodName)) ∈ lw_all := lw_g (lw_at lw_m1 135 rfl) rfl
theorem q153 : (Jvm.Cond.methodLink "UndoReaderLaw" (44 : Nat) ({ cls := "UndoReader", name := "locks", desc := "(I)I" } : Jvm.MethodName)) ∈ lw_all := lw_g (lw_at lw_m1 139 rfl) rfl
theorem q157 : (Jvm.Cond.methodLink "UndoReaderLaw" (48 : Nat) ({ cls := "UndoReader", name := "remembered", desc := "()I" } : Jvm.MethodName)) ∈ lw_all := lw_g (lw_at lw_m1 143 rfl) rfl
theorem q161 : (Jvm.Cond.methodLink "UndoReaderLaw" (52 : Nat) ({ cls := "UndoReader", name := "changes", desc := "(I)I" } : Jvm.MethodName)) ∈ lw_all := lw_g (lw_at lw_m1 147 rfl) rfl
theorem q165 : (Jvm.Cond.methodLink "UndoReaderLaw" (56 : Nat) ({ cls := "UndoReader", name := "oldest", desc := "(I)I" } : Jvm.MethodName)) ∈ lw_all := lw_g (lw_at lw_m1 151 rfl) rfl
theorem q169 : (Jvm.Cond.methodLink "UndoReaderLaw" (60 : Nat) ({ cls := "UndoReader", name := "changedSince", desc := "(I)I" } : Jvm.MethodName)) ∈ lw_all := lw_g (lw_at lw_m1 155 rfl) rfl
theorem q173 : (Jvm.Cond.classLink "UndoReaderLaw" (10 : Nat) "UndoReaderModel") ∈ lw_all := lw_g (lw_at lw_m1 159 rfl) rfl
theorem q175 : (Jvm.Cond.methodLink "UndoReaderLaw" (12 : Nat) ({ cls := "UndoReaderModel", name := "<init>", desc := "()V" } : Jvm.MethodName)) ∈ lw_all := lw_g (lw_at lw_m1 161 rfl) rfl
theorem q214 : (Jvm.Cond.methodLink "UndoReaderLaw" (17 : Nat) ({ cls := "UndoReaderModel", name := "change", desc := "(III)I" } : Jvm.MethodName)) ∈ lw_all := lw_g (lw_at lw_m1 200 rfl) rfl
theorem q234 : (Jvm.Cond.methodLink "UndoReaderLaw" (22 : Nat) ({ cls := "UndoReaderModel", name := "commit", desc := "(I)I" } : Jvm.MethodName)) ∈ lw_all := lw_g (lw_at lw_m1 220 rfl) rfl
theorem q246 : (Jvm.Cond.methodLink "UndoReaderLaw" (26 : Nat) ({ cls := "UndoReaderModel", name := "rollback", desc := "(I)I" } : Jvm.MethodName)) ∈ lw_all := lw_g (lw_at lw_m1 232 rfl) rfl
theorem q250 : (Jvm.Cond.methodLink "UndoReaderLaw" (31 : Nat) ({ cls := "UndoReaderModel", name := "clock", desc := "()I" } : Jvm.MethodName)) ∈ lw_all := lw_g (lw_at lw_m1 236 rfl) rfl
theorem q254 : (Jvm.Cond.methodLink "UndoReaderLaw" (35 : Nat) ({ cls := "UndoReaderModel", name := "read", desc := "(III)I" } : Jvm.MethodName)) ∈ lw_all := lw_g (lw_at lw_m2 0 rfl) rfl
theorem q263 : (Jvm.Cond.methodLink "UndoReaderLaw" (39 : Nat) ({ cls := "UndoReaderModel", name := "raw", desc := "(I)I" } : Jvm.MethodName)) ∈ lw_all := lw_g (lw_at lw_m2 9 rfl) rfl
theorem q267 : (Jvm.Cond.methodLink "UndoReaderLaw" (43 : Nat) ({ cls := "UndoReaderModel", name := "holder", desc := "(I)I" } : Jvm.MethodName)) ∈ lw_all := lw_g (lw_at lw_m2 13 rfl) rfl
theorem q271 : (Jvm.Cond.methodLink "UndoReaderLaw" (47 : Nat) ({ cls := "UndoReaderModel", name := "locks", desc := "(I)I" } : Jvm.MethodName)) ∈ lw_all := lw_g (lw_at lw_m2 17 rfl) rfl
theorem q275 : (Jvm.Cond.methodLink "UndoReaderLaw" (51 : Nat) ({ cls := "UndoReaderModel", name := "remembered", desc := "()I" } : Jvm.MethodName)) ∈ lw_all := lw_g (lw_at lw_m2 21 rfl) rfl
theorem q276 : (Jvm.Cond.methodLink "UndoReaderLaw" (55 : Nat) ({ cls := "UndoReaderModel", name := "changes", desc := "(I)I" } : Jvm.MethodName)) ∈ lw_all := lw_g (lw_at lw_m2 22 rfl) rfl
theorem q277 : (Jvm.Cond.methodLink "UndoReaderLaw" (59 : Nat) ({ cls := "UndoReaderModel", name := "oldest", desc := "(I)I" } : Jvm.MethodName)) ∈ lw_all := lw_g (lw_at lw_m2 23 rfl) rfl
theorem q281 : (Jvm.Cond.methodLink "UndoReaderLaw" (63 : Nat) ({ cls := "UndoReaderModel", name := "changedSince", desc := "(I)I" } : Jvm.MethodName)) ∈ lw_all := lw_g (lw_at lw_m2 27 rfl) rfl
theorem q80 : (Jvm.Cond.arrayClass Jvm.ClassFile.FieldType.int) ∈ lw_all := lw_g (lw_at lw_m1 66 rfl) rfl
set_option maxRecDepth 100000
theorem q81 : (Jvm.Cond.arrayClass Jvm.ClassFile.FieldType.byte) ∈ lw_all := lw_g (lw_at lw_m1 67 rfl) rfl
theorem q213 : (Jvm.Cond.arrayClass Jvm.ClassFile.FieldType.boolean) ∈ lw_all := lw_g (lw_at lw_m1 199 rfl) rfl
/-! java/lang/Object -/
set_option maxRecDepth 100000
def RJ0 : String := "java/lang/Object"
abbrev cJ0_init : ByteArray := object_method_1_code
def yJ0_init : MethodName := ⟨RJ0, "<init>", "()V"⟩
theorem dJ0_init_0 : decode cJ0_init 0 = .ok (.return_, 1) := by decide +kernel
theorem q23 : (Jvm.Cond.instanceMethod ({ cls := "java/lang/Object", name := "<init>", desc := "()V" } : Jvm.MethodName)) ∈ lw_all := lw_g (lw_at lw_m1 9 rfl) rfl
theorem q24 : (Jvm.Cond.code ({ cls := "java/lang/Object", name := "<init>", desc := "()V" } : Jvm.MethodName) object_method_1_code (1 : Nat) (Option.none : Option Jvm.ClassFile.FieldType)) ∈ lw_all := lw_g (lw_at lw_m1 10 rfl) rfl
end
section
/-! UndoReader -/
set_option maxRecDepth 100000
def RX0 : String := "UndoReader"
def TX0 : u_T := fun k => match k with
  | 0 => ("UndoReader", "values", "[I", true)
  | 1 => ("UndoReader", "newest", "[B", true)
  | 2 => ("UndoReader", "forgotten", "[I", true)
  | 3 => ("UndoReader", "rowOf", "[B", true)
  | 4 => ("UndoReader", "oldValue", "[I", true)
  | 5 => ("UndoReader", "placeOf", "[B", true)
  | 6 => ("UndoReader", "olderOfRow", "[B", true)
  | 7 => ("UndoReader", "olderOfAll", "[B", true)
  | 8 => ("UndoReader", "newerOfAll", "[B", true)
  | 9 => ("UndoReader", "used", "I", false)
  | 10 => ("UndoReader", "first", "I", false)
  | 11 => ("UndoReader", "last", "I", false)
  | 12 => ("UndoReader", "count", "I", false)
  | 13 => ("UndoReader", "taken", "I", false)
  | 14 => ("UndoReader", "changesOf", "[B", true)
  | 15 => ("UndoReader", "numberOf", "[I", true)
  | 16 => ("UndoReader", "openPlace", "[B", true)
  | _ => ("UndoReader", "now", "I", false)
def tyX0 : Nat → FieldType := fun k => match k with
  | 0 => .array .int
  | 1 => .array .byte
  | 2 => .array .int
  | 3 => .array .byte
  | 4 => .array .int
  | 5 => .array .byte
  | 6 => .array .byte
  | 7 => .array .byte
  | 8 => .array .byte
  | 9 => .int
  | 10 => .int
  | 11 => .int
  | 12 => .int
  | 13 => .int
  | 14 => .array .byte
  | 15 => .array .int
  | 16 => .array .byte
  | _ => .int
abbrev wsX00 : List Cond := u_ws RX0 TX0 18
set_option maxRecDepth 100000 in
theorem nmX0 : ∀ a, a < 18 → ∀ b, b < 18 → a ≠ b → (TX0 a).2.1 ≠ (TX0 b).2.1 := by decide +kernel
set_option maxRecDepth 100000 in
theorem tyX0_ok : ∀ k, k < 18 → parseFieldDescriptor (TX0 k).2.2.1 = some (tyX0 k) := by decide +kernel
abbrev cX0_init : ByteArray := prog_1_method_1_code
def yX0_init : MethodName := ⟨RX0, "<init>", "()V"⟩
theorem dX0_init_0 : decode cX0_init 0 = .ok (.aload_n 0, 1) := by decide +kernel
theorem dX0_init_1 : decode cX0_init 1 = .ok (.invokespecial 1, 3) := by decide +kernel
theorem dX0_init_4 : decode cX0_init 4 = .ok (.aload_n 0, 1) := by decide +kernel
theorem dX0_init_5 : decode cX0_init 5 = .ok (.bipush 8, 2) := by decide +kernel
theorem dX0_init_7 : decode cX0_init 7 = .ok (.newarray .int, 2) := by decide +kernel
theorem dX0_init_9 : decode cX0_init 9 = .ok (.putfield 7, 3) := by decide +kernel
theorem dX0_init_12 : decode cX0_init 12 = .ok (.aload_n 0, 1) := by decide +kernel
theorem dX0_init_13 : decode cX0_init 13 = .ok (.bipush 8, 2) := by decide +kernel
theorem dX0_init_15 : decode cX0_init 15 = .ok (.newarray .byte, 2) := by decide +kernel
theorem dX0_init_17 : decode cX0_init 17 = .ok (.putfield 13, 3) := by decide +kernel
theorem dX0_init_20 : decode cX0_init 20 = .ok (.aload_n 0, 1) := by decide +kernel
theorem dX0_init_21 : decode cX0_init 21 = .ok (.bipush 8, 2) := by decide +kernel
theorem dX0_init_23 : decode cX0_init 23 = .ok (.newarray .int, 2) := by decide +kernel
theorem dX0_init_25 : decode cX0_init 25 = .ok (.putfield 17, 3) := by decide +kernel
theorem dX0_init_28 : decode cX0_init 28 = .ok (.aload_n 0, 1) := by decide +kernel
theorem dX0_init_29 : decode cX0_init 29 = .ok (.bipush 24, 2) := by decide +kernel
theorem dX0_init_31 : decode cX0_init 31 = .ok (.newarray .byte, 2) := by decide +kernel
theorem dX0_init_33 : decode cX0_init 33 = .ok (.putfield 20, 3) := by decide +kernel
theorem dX0_init_36 : decode cX0_init 36 = .ok (.aload_n 0, 1) := by decide +kernel
theorem dX0_init_37 : decode cX0_init 37 = .ok (.bipush 24, 2) := by decide +kernel
theorem dX0_init_39 : decode cX0_init 39 = .ok (.newarray .int, 2) := by decide +kernel
theorem dX0_init_41 : decode cX0_init 41 = .ok (.putfield 23, 3) := by decide +kernel
theorem dX0_init_44 : decode cX0_init 44 = .ok (.aload_n 0, 1) := by decide +kernel
theorem dX0_init_45 : decode cX0_init 45 = .ok (.bipush 24, 2) := by decide +kernel
theorem dX0_init_47 : decode cX0_init 47 = .ok (.newarray .byte, 2) := by decide +kernel
theorem dX0_init_49 : decode cX0_init 49 = .ok (.putfield 26, 3) := by decide +kernel
theorem dX0_init_52 : decode cX0_init 52 = .ok (.aload_n 0, 1) := by decide +kernel
theorem dX0_init_53 : decode cX0_init 53 = .ok (.bipush 24, 2) := by decide +kernel
theorem dX0_init_55 : decode cX0_init 55 = .ok (.newarray .byte, 2) := by decide +kernel
theorem dX0_init_57 : decode cX0_init 57 = .ok (.putfield 29, 3) := by decide +kernel
theorem dX0_init_60 : decode cX0_init 60 = .ok (.aload_n 0, 1) := by decide +kernel
theorem dX0_init_61 : decode cX0_init 61 = .ok (.bipush 24, 2) := by decide +kernel
theorem dX0_init_63 : decode cX0_init 63 = .ok (.newarray .byte, 2) := by decide +kernel
theorem dX0_init_65 : decode cX0_init 65 = .ok (.putfield 32, 3) := by decide +kernel
theorem dX0_init_68 : decode cX0_init 68 = .ok (.aload_n 0, 1) := by decide +kernel
theorem dX0_init_69 : decode cX0_init 69 = .ok (.bipush 24, 2) := by decide +kernel
theorem dX0_init_71 : decode cX0_init 71 = .ok (.newarray .byte, 2) := by decide +kernel
theorem dX0_init_73 : decode cX0_init 73 = .ok (.putfield 35, 3) := by decide +kernel
theorem dX0_init_76 : decode cX0_init 76 = .ok (.aload_n 0, 1) := by decide +kernel
theorem dX0_init_77 : decode cX0_init 77 = .ok (.bipush 32, 2) := by decide +kernel
theorem dX0_init_79 : decode cX0_init 79 = .ok (.newarray .byte, 2) := by decide +kernel
theorem dX0_init_81 : decode cX0_init 81 = .ok (.putfield 38, 3) := by decide +kernel
theorem dX0_init_84 : decode cX0_init 84 = .ok (.aload_n 0, 1) := by decide +kernel
theorem dX0_init_85 : decode cX0_init 85 = .ok (.bipush 32, 2) := by decide +kernel
theorem dX0_init_87 : decode cX0_init 87 = .ok (.newarray .int, 2) := by decide +kernel
theorem dX0_init_89 : decode cX0_init 89 = .ok (.putfield 41, 3) := by decide +kernel
theorem dX0_init_92 : decode cX0_init 92 = .ok (.aload_n 0, 1) := by decide +kernel
theorem dX0_init_93 : decode cX0_init 93 = .ok (.iconst 4, 1) := by decide +kernel
theorem dX0_init_94 : decode cX0_init 94 = .ok (.newarray .byte, 2) := by decide +kernel
theorem dX0_init_96 : decode cX0_init 96 = .ok (.putfield 44, 3) := by decide +kernel
theorem dX0_init_99 : decode cX0_init 99 = .ok (.aload_n 0, 1) := by decide +kernel
theorem dX0_init_100 : decode cX0_init 100 = .ok (.iconst (-1), 1) := by decide +kernel
theorem dX0_init_101 : decode cX0_init 101 = .ok (.putfield 47, 3) := by decide +kernel
theorem dX0_init_104 : decode cX0_init 104 = .ok (.aload_n 0, 1) := by decide +kernel
theorem dX0_init_105 : decode cX0_init 105 = .ok (.iconst (-1), 1) := by decide +kernel
theorem dX0_init_106 : decode cX0_init 106 = .ok (.putfield 51, 3) := by decide +kernel
theorem dX0_init_109 : decode cX0_init 109 = .ok (.iconst 0, 1) := by decide +kernel
theorem dX0_init_110 : decode cX0_init 110 = .ok (.istore_n 1, 1) := by decide +kernel
theorem dX0_init_111 : decode cX0_init 111 = .ok (.iload_n 1, 1) := by decide +kernel
theorem dX0_init_112 : decode cX0_init 112 = .ok (.bipush 8, 2) := by decide +kernel
theorem dX0_init_114 : decode cX0_init 114 = .ok (.if_icmp .ge 16, 3) := by decide +kernel
theorem dX0_init_117 : decode cX0_init 117 = .ok (.aload_n 0, 1) := by decide +kernel
theorem dX0_init_118 : decode cX0_init 118 = .ok (.getfield 13, 3) := by decide +kernel
theorem dX0_init_121 : decode cX0_init 121 = .ok (.iload_n 1, 1) := by decide +kernel
theorem dX0_init_122 : decode cX0_init 122 = .ok (.iconst (-1), 1) := by decide +kernel
theorem dX0_init_123 : decode cX0_init 123 = .ok (.bastore, 1) := by decide +kernel
theorem dX0_init_124 : decode cX0_init 124 = .ok (.iinc 1 1, 3) := by decide +kernel
theorem dX0_init_127 : decode cX0_init 127 = .ok (.goto (-16), 3) := by decide +kernel
theorem dX0_init_130 : decode cX0_init 130 = .ok (.iconst 0, 1) := by decide +kernel
theorem dX0_init_131 : decode cX0_init 131 = .ok (.istore_n 1, 1) := by decide +kernel
theorem dX0_init_132 : decode cX0_init 132 = .ok (.iload_n 1, 1) := by decide +kernel
theorem dX0_init_133 : decode cX0_init 133 = .ok (.iconst 4, 1) := by decide +kernel
theorem dX0_init_134 : decode cX0_init 134 = .ok (.if_icmp .ge 16, 3) := by decide +kernel
theorem dX0_init_137 : decode cX0_init 137 = .ok (.aload_n 0, 1) := by decide +kernel
theorem dX0_init_138 : decode cX0_init 138 = .ok (.getfield 44, 3) := by decide +kernel
theorem dX0_init_141 : decode cX0_init 141 = .ok (.iload_n 1, 1) := by decide +kernel
theorem dX0_init_142 : decode cX0_init 142 = .ok (.iconst (-1), 1) := by decide +kernel
theorem dX0_init_143 : decode cX0_init 143 = .ok (.bastore, 1) := by decide +kernel
theorem dX0_init_144 : decode cX0_init 144 = .ok (.iinc 1 1, 3) := by decide +kernel
theorem dX0_init_147 : decode cX0_init 147 = .ok (.goto (-15), 3) := by decide +kernel
theorem dX0_init_150 : decode cX0_init 150 = .ok (.return_, 1) := by decide +kernel
abbrev cX0_change : ByteArray := prog_1_method_8_code
def yX0_change : MethodName := ⟨RX0, "change", "(III)I"⟩
theorem dX0_change_0 : decode cX0_change 0 = .ok (.iload_n 1, 1) := by decide +kernel
theorem dX0_change_1 : decode cX0_change 1 = .ok (.invokestatic 65, 3) := by decide +kernel
theorem dX0_change_4 : decode cX0_change 4 = .ok (.ifCond .eq 10, 3) := by decide +kernel
theorem dX0_change_7 : decode cX0_change 7 = .ok (.iload_n 2, 1) := by decide +kernel
theorem dX0_change_8 : decode cX0_change 8 = .ok (.invokestatic 68, 3) := by decide +kernel
theorem dX0_change_11 : decode cX0_change 11 = .ok (.ifCond .ne 5, 3) := by decide +kernel
theorem dX0_change_14 : decode cX0_change 14 = .ok (.iconst (-1), 1) := by decide +kernel
theorem dX0_change_15 : decode cX0_change 15 = .ok (.ireturn, 1) := by decide +kernel
theorem dX0_change_16 : decode cX0_change 16 = .ok (.aload_n 0, 1) := by decide +kernel
theorem dX0_change_17 : decode cX0_change 17 = .ok (.iload_n 2, 1) := by decide +kernel
theorem dX0_change_18 : decode cX0_change 18 = .ok (.invokevirtual 71, 3) := by decide +kernel
theorem dX0_change_21 : decode cX0_change 21 = .ok (.istore 4, 2) := by decide +kernel
theorem dX0_change_23 : decode cX0_change 23 = .ok (.iload 4, 2) := by decide +kernel
theorem dX0_change_25 : decode cX0_change 25 = .ok (.ifCond .lt 17, 3) := by decide +kernel
theorem dX0_change_28 : decode cX0_change 28 = .ok (.iload 4, 2) := by decide +kernel
theorem dX0_change_30 : decode cX0_change 30 = .ok (.aload_n 0, 1) := by decide +kernel
theorem dX0_change_31 : decode cX0_change 31 = .ok (.getfield 44, 3) := by decide +kernel
theorem dX0_change_34 : decode cX0_change 34 = .ok (.iload_n 1, 1) := by decide +kernel
theorem dX0_change_35 : decode cX0_change 35 = .ok (.baload, 1) := by decide +kernel
theorem dX0_change_36 : decode cX0_change 36 = .ok (.if_icmp .eq 6, 3) := by decide +kernel
theorem dX0_change_39 : decode cX0_change 39 = .ok (.bipush (-2), 2) := by decide +kernel
theorem dX0_change_41 : decode cX0_change 41 = .ok (.ireturn, 1) := by decide +kernel
theorem dX0_change_42 : decode cX0_change 42 = .ok (.aload_n 0, 1) := by decide +kernel
theorem dX0_change_43 : decode cX0_change 43 = .ok (.getfield 75, 3) := by decide +kernel
theorem dX0_change_46 : decode cX0_change 46 = .ok (.bipush 24, 2) := by decide +kernel
theorem dX0_change_48 : decode cX0_change 48 = .ok (.if_icmp .ne 22, 3) := by decide +kernel
theorem dX0_change_51 : decode cX0_change 51 = .ok (.aload_n 0, 1) := by decide +kernel
theorem dX0_change_52 : decode cX0_change 52 = .ok (.aload_n 0, 1) := by decide +kernel
theorem dX0_change_53 : decode cX0_change 53 = .ok (.getfield 26, 3) := by decide +kernel
theorem dX0_change_56 : decode cX0_change 56 = .ok (.aload_n 0, 1) := by decide +kernel
theorem dX0_change_57 : decode cX0_change 57 = .ok (.getfield 47, 3) := by decide +kernel
theorem dX0_change_60 : decode cX0_change 60 = .ok (.baload, 1) := by decide +kernel
theorem dX0_change_61 : decode cX0_change 61 = .ok (.invokevirtual 61, 3) := by decide +kernel
theorem dX0_change_64 : decode cX0_change 64 = .ok (.ifCond .eq 6, 3) := by decide +kernel
theorem dX0_change_67 : decode cX0_change 67 = .ok (.bipush (-3), 2) := by decide +kernel
theorem dX0_change_69 : decode cX0_change 69 = .ok (.ireturn, 1) := by decide +kernel
theorem dX0_change_70 : decode cX0_change 70 = .ok (.aload_n 0, 1) := by decide +kernel
theorem dX0_change_71 : decode cX0_change 71 = .ok (.getfield 75, 3) := by decide +kernel
theorem dX0_change_74 : decode cX0_change 74 = .ok (.bipush 24, 2) := by decide +kernel
theorem dX0_change_76 : decode cX0_change 76 = .ok (.if_icmp .ne 7, 3) := by decide +kernel
theorem dX0_change_79 : decode cX0_change 79 = .ok (.aload_n 0, 1) := by decide +kernel
theorem dX0_change_80 : decode cX0_change 80 = .ok (.invokevirtual 78, 3) := by decide +kernel
theorem dX0_change_83 : decode cX0_change 83 = .ok (.aload_n 0, 1) := by decide +kernel
theorem dX0_change_84 : decode cX0_change 84 = .ok (.getfield 44, 3) := by decide +kernel
theorem dX0_change_87 : decode cX0_change 87 = .ok (.iload_n 1, 1) := by decide +kernel
theorem dX0_change_88 : decode cX0_change 88 = .ok (.baload, 1) := by decide +kernel
theorem dX0_change_89 : decode cX0_change 89 = .ok (.ifCond .ge 8, 3) := by decide +kernel
theorem dX0_change_92 : decode cX0_change 92 = .ok (.aload_n 0, 1) := by decide +kernel
theorem dX0_change_93 : decode cX0_change 93 = .ok (.iload_n 1, 1) := by decide +kernel
theorem dX0_change_94 : decode cX0_change 94 = .ok (.invokevirtual 81, 3) := by decide +kernel
theorem dX0_change_97 : decode cX0_change 97 = .ok (.aload_n 0, 1) := by decide +kernel
theorem dX0_change_98 : decode cX0_change 98 = .ok (.iload_n 2, 1) := by decide +kernel
theorem dX0_change_99 : decode cX0_change 99 = .ok (.aload_n 0, 1) := by decide +kernel
theorem dX0_change_100 : decode cX0_change 100 = .ok (.getfield 44, 3) := by decide +kernel
theorem dX0_change_103 : decode cX0_change 103 = .ok (.iload_n 1, 1) := by decide +kernel
theorem dX0_change_104 : decode cX0_change 104 = .ok (.baload, 1) := by decide +kernel
theorem dX0_change_105 : decode cX0_change 105 = .ok (.invokevirtual 85, 3) := by decide +kernel
theorem dX0_change_108 : decode cX0_change 108 = .ok (.aload_n 0, 1) := by decide +kernel
theorem dX0_change_109 : decode cX0_change 109 = .ok (.getfield 7, 3) := by decide +kernel
theorem dX0_change_112 : decode cX0_change 112 = .ok (.iload_n 2, 1) := by decide +kernel
theorem dX0_change_113 : decode cX0_change 113 = .ok (.iload_n 3, 1) := by decide +kernel
theorem dX0_change_114 : decode cX0_change 114 = .ok (.iastore, 1) := by decide +kernel
theorem dX0_change_115 : decode cX0_change 115 = .ok (.iconst 0, 1) := by decide +kernel
theorem dX0_change_116 : decode cX0_change 116 = .ok (.ireturn, 1) := by decide +kernel
abbrev cX0_isSession : ByteArray := prog_1_method_2_code
def yX0_isSession : MethodName := ⟨RX0, "isSession", "(I)Z"⟩
theorem dX0_isSession_0 : decode cX0_isSession 0 = .ok (.iload_n 0, 1) := by decide +kernel
theorem dX0_isSession_1 : decode cX0_isSession 1 = .ok (.ifCond .lt 12, 3) := by decide +kernel
theorem dX0_isSession_4 : decode cX0_isSession 4 = .ok (.iload_n 0, 1) := by decide +kernel
theorem dX0_isSession_5 : decode cX0_isSession 5 = .ok (.iconst 4, 1) := by decide +kernel
theorem dX0_isSession_6 : decode cX0_isSession 6 = .ok (.if_icmp .ge 7, 3) := by decide +kernel
theorem dX0_isSession_9 : decode cX0_isSession 9 = .ok (.iconst 1, 1) := by decide +kernel
theorem dX0_isSession_10 : decode cX0_isSession 10 = .ok (.goto 4, 3) := by decide +kernel
theorem dX0_isSession_13 : decode cX0_isSession 13 = .ok (.iconst 0, 1) := by decide +kernel
theorem dX0_isSession_14 : decode cX0_isSession 14 = .ok (.ireturn, 1) := by decide +kernel
abbrev cX0_isRow : ByteArray := prog_1_method_3_code
def yX0_isRow : MethodName := ⟨RX0, "isRow", "(I)Z"⟩
theorem dX0_isRow_0 : decode cX0_isRow 0 = .ok (.iload_n 0, 1) := by decide +kernel
theorem dX0_isRow_1 : decode cX0_isRow 1 = .ok (.ifCond .lt 13, 3) := by decide +kernel
theorem dX0_isRow_4 : decode cX0_isRow 4 = .ok (.iload_n 0, 1) := by decide +kernel
theorem dX0_isRow_5 : decode cX0_isRow 5 = .ok (.bipush 8, 2) := by decide +kernel
theorem dX0_isRow_7 : decode cX0_isRow 7 = .ok (.if_icmp .ge 7, 3) := by decide +kernel
theorem dX0_isRow_10 : decode cX0_isRow 10 = .ok (.iconst 1, 1) := by decide +kernel
theorem dX0_isRow_11 : decode cX0_isRow 11 = .ok (.goto 4, 3) := by decide +kernel
theorem dX0_isRow_14 : decode cX0_isRow 14 = .ok (.iconst 0, 1) := by decide +kernel
theorem dX0_isRow_15 : decode cX0_isRow 15 = .ok (.ireturn, 1) := by decide +kernel
abbrev cX0_lockOf : ByteArray := prog_1_method_7_code
def yX0_lockOf : MethodName := ⟨RX0, "lockOf", "(I)I"⟩
theorem dX0_lockOf_0 : decode cX0_lockOf 0 = .ok (.aload_n 0, 1) := by decide +kernel
theorem dX0_lockOf_1 : decode cX0_lockOf 1 = .ok (.getfield 13, 3) := by decide +kernel
theorem dX0_lockOf_4 : decode cX0_lockOf 4 = .ok (.iload_n 1, 1) := by decide +kernel
theorem dX0_lockOf_5 : decode cX0_lockOf 5 = .ok (.baload, 1) := by decide +kernel
theorem dX0_lockOf_6 : decode cX0_lockOf 6 = .ok (.istore_n 2, 1) := by decide +kernel
theorem dX0_lockOf_7 : decode cX0_lockOf 7 = .ok (.iload_n 2, 1) := by decide +kernel
theorem dX0_lockOf_8 : decode cX0_lockOf 8 = .ok (.ifCond .lt 25, 3) := by decide +kernel
theorem dX0_lockOf_11 : decode cX0_lockOf 11 = .ok (.aload_n 0, 1) := by decide +kernel
theorem dX0_lockOf_12 : decode cX0_lockOf 12 = .ok (.aload_n 0, 1) := by decide +kernel
theorem dX0_lockOf_13 : decode cX0_lockOf 13 = .ok (.getfield 26, 3) := by decide +kernel
theorem dX0_lockOf_16 : decode cX0_lockOf 16 = .ok (.iload_n 2, 1) := by decide +kernel
theorem dX0_lockOf_17 : decode cX0_lockOf 17 = .ok (.baload, 1) := by decide +kernel
theorem dX0_lockOf_18 : decode cX0_lockOf 18 = .ok (.invokevirtual 61, 3) := by decide +kernel
theorem dX0_lockOf_21 : decode cX0_lockOf 21 = .ok (.ifCond .eq 12, 3) := by decide +kernel
theorem dX0_lockOf_24 : decode cX0_lockOf 24 = .ok (.aload_n 0, 1) := by decide +kernel
theorem dX0_lockOf_25 : decode cX0_lockOf 25 = .ok (.getfield 26, 3) := by decide +kernel
theorem dX0_lockOf_28 : decode cX0_lockOf 28 = .ok (.iload_n 2, 1) := by decide +kernel
theorem dX0_lockOf_29 : decode cX0_lockOf 29 = .ok (.baload, 1) := by decide +kernel
theorem dX0_lockOf_30 : decode cX0_lockOf 30 = .ok (.goto 4, 3) := by decide +kernel
theorem dX0_lockOf_33 : decode cX0_lockOf 33 = .ok (.iconst (-1), 1) := by decide +kernel
theorem dX0_lockOf_34 : decode cX0_lockOf 34 = .ok (.ireturn, 1) := by decide +kernel
abbrev cX0_isOpen : ByteArray := prog_1_method_5_code
def yX0_isOpen : MethodName := ⟨RX0, "isOpen", "(I)Z"⟩
theorem dX0_isOpen_0 : decode cX0_isOpen 0 = .ok (.aload_n 0, 1) := by decide +kernel
theorem dX0_isOpen_1 : decode cX0_isOpen 1 = .ok (.getfield 41, 3) := by decide +kernel
theorem dX0_isOpen_4 : decode cX0_isOpen 4 = .ok (.iload_n 1, 1) := by decide +kernel
theorem dX0_isOpen_5 : decode cX0_isOpen 5 = .ok (.iaload, 1) := by decide +kernel
theorem dX0_isOpen_6 : decode cX0_isOpen 6 = .ok (.ifCond .ne 7, 3) := by decide +kernel
theorem dX0_isOpen_9 : decode cX0_isOpen 9 = .ok (.iconst 1, 1) := by decide +kernel
theorem dX0_isOpen_10 : decode cX0_isOpen 10 = .ok (.goto 4, 3) := by decide +kernel
theorem dX0_isOpen_13 : decode cX0_isOpen 13 = .ok (.iconst 0, 1) := by decide +kernel
theorem dX0_isOpen_14 : decode cX0_isOpen 14 = .ok (.ireturn, 1) := by decide +kernel
abbrev cX0_forgetFirst : ByteArray := prog_1_method_13_code
def yX0_forgetFirst : MethodName := ⟨RX0, "forgetFirst", "()V"⟩
theorem dX0_forgetFirst_0 : decode cX0_forgetFirst 0 = .ok (.aload_n 0, 1) := by decide +kernel
theorem dX0_forgetFirst_1 : decode cX0_forgetFirst 1 = .ok (.getfield 47, 3) := by decide +kernel
theorem dX0_forgetFirst_4 : decode cX0_forgetFirst 4 = .ok (.istore_n 1, 1) := by decide +kernel
theorem dX0_forgetFirst_5 : decode cX0_forgetFirst 5 = .ok (.aload_n 0, 1) := by decide +kernel
theorem dX0_forgetFirst_6 : decode cX0_forgetFirst 6 = .ok (.getfield 20, 3) := by decide +kernel
theorem dX0_forgetFirst_9 : decode cX0_forgetFirst 9 = .ok (.iload_n 1, 1) := by decide +kernel
theorem dX0_forgetFirst_10 : decode cX0_forgetFirst 10 = .ok (.baload, 1) := by decide +kernel
theorem dX0_forgetFirst_11 : decode cX0_forgetFirst 11 = .ok (.istore_n 2, 1) := by decide +kernel
theorem dX0_forgetFirst_12 : decode cX0_forgetFirst 12 = .ok (.aload_n 0, 1) := by decide +kernel
theorem dX0_forgetFirst_13 : decode cX0_forgetFirst 13 = .ok (.getfield 41, 3) := by decide +kernel
theorem dX0_forgetFirst_16 : decode cX0_forgetFirst 16 = .ok (.aload_n 0, 1) := by decide +kernel
theorem dX0_forgetFirst_17 : decode cX0_forgetFirst 17 = .ok (.getfield 26, 3) := by decide +kernel
theorem dX0_forgetFirst_20 : decode cX0_forgetFirst 20 = .ok (.iload_n 1, 1) := by decide +kernel
theorem dX0_forgetFirst_21 : decode cX0_forgetFirst 21 = .ok (.baload, 1) := by decide +kernel
theorem dX0_forgetFirst_22 : decode cX0_forgetFirst 22 = .ok (.iaload, 1) := by decide +kernel
theorem dX0_forgetFirst_23 : decode cX0_forgetFirst 23 = .ok (.istore_n 3, 1) := by decide +kernel
theorem dX0_forgetFirst_24 : decode cX0_forgetFirst 24 = .ok (.iload_n 3, 1) := by decide +kernel
theorem dX0_forgetFirst_25 : decode cX0_forgetFirst 25 = .ok (.aload_n 0, 1) := by decide +kernel
theorem dX0_forgetFirst_26 : decode cX0_forgetFirst 26 = .ok (.getfield 17, 3) := by decide +kernel
theorem dX0_forgetFirst_29 : decode cX0_forgetFirst 29 = .ok (.iload_n 2, 1) := by decide +kernel
theorem dX0_forgetFirst_30 : decode cX0_forgetFirst 30 = .ok (.iaload, 1) := by decide +kernel
theorem dX0_forgetFirst_31 : decode cX0_forgetFirst 31 = .ok (.if_icmp .le 10, 3) := by decide +kernel
theorem dX0_forgetFirst_34 : decode cX0_forgetFirst 34 = .ok (.aload_n 0, 1) := by decide +kernel
theorem dX0_forgetFirst_35 : decode cX0_forgetFirst 35 = .ok (.getfield 17, 3) := by decide +kernel
theorem dX0_forgetFirst_38 : decode cX0_forgetFirst 38 = .ok (.iload_n 2, 1) := by decide +kernel
theorem dX0_forgetFirst_39 : decode cX0_forgetFirst 39 = .ok (.iload_n 3, 1) := by decide +kernel
theorem dX0_forgetFirst_40 : decode cX0_forgetFirst 40 = .ok (.iastore, 1) := by decide +kernel
theorem dX0_forgetFirst_41 : decode cX0_forgetFirst 41 = .ok (.aload_n 0, 1) := by decide +kernel
theorem dX0_forgetFirst_42 : decode cX0_forgetFirst 42 = .ok (.getfield 13, 3) := by decide +kernel
theorem dX0_forgetFirst_45 : decode cX0_forgetFirst 45 = .ok (.iload_n 2, 1) := by decide +kernel
theorem dX0_forgetFirst_46 : decode cX0_forgetFirst 46 = .ok (.baload, 1) := by decide +kernel
theorem dX0_forgetFirst_47 : decode cX0_forgetFirst 47 = .ok (.iload_n 1, 1) := by decide +kernel
theorem dX0_forgetFirst_48 : decode cX0_forgetFirst 48 = .ok (.if_icmp .ne 10, 3) := by decide +kernel
theorem dX0_forgetFirst_51 : decode cX0_forgetFirst 51 = .ok (.aload_n 0, 1) := by decide +kernel
theorem dX0_forgetFirst_52 : decode cX0_forgetFirst 52 = .ok (.getfield 13, 3) := by decide +kernel
theorem dX0_forgetFirst_55 : decode cX0_forgetFirst 55 = .ok (.iload_n 2, 1) := by decide +kernel
theorem dX0_forgetFirst_56 : decode cX0_forgetFirst 56 = .ok (.iconst (-1), 1) := by decide +kernel
theorem dX0_forgetFirst_57 : decode cX0_forgetFirst 57 = .ok (.bastore, 1) := by decide +kernel
theorem dX0_forgetFirst_58 : decode cX0_forgetFirst 58 = .ok (.iconst 0, 1) := by decide +kernel
theorem dX0_forgetFirst_59 : decode cX0_forgetFirst 59 = .ok (.istore 4, 2) := by decide +kernel
theorem dX0_forgetFirst_61 : decode cX0_forgetFirst 61 = .ok (.iload 4, 2) := by decide +kernel
theorem dX0_forgetFirst_63 : decode cX0_forgetFirst 63 = .ok (.bipush 24, 2) := by decide +kernel
theorem dX0_forgetFirst_65 : decode cX0_forgetFirst 65 = .ok (.if_icmp .ge 40, 3) := by decide +kernel
theorem dX0_forgetFirst_68 : decode cX0_forgetFirst 68 = .ok (.aload_n 0, 1) := by decide +kernel
theorem dX0_forgetFirst_69 : decode cX0_forgetFirst 69 = .ok (.getfield 95, 3) := by decide +kernel
theorem dX0_forgetFirst_72 : decode cX0_forgetFirst 72 = .ok (.iload 4, 2) := by decide +kernel
theorem dX0_forgetFirst_74 : decode cX0_forgetFirst 74 = .ok (.ishr, 1) := by decide +kernel
theorem dX0_forgetFirst_75 : decode cX0_forgetFirst 75 = .ok (.iconst 1, 1) := by decide +kernel
theorem dX0_forgetFirst_76 : decode cX0_forgetFirst 76 = .ok (.iand, 1) := by decide +kernel
theorem dX0_forgetFirst_77 : decode cX0_forgetFirst 77 = .ok (.ifCond .eq 22, 3) := by decide +kernel
theorem dX0_forgetFirst_80 : decode cX0_forgetFirst 80 = .ok (.aload_n 0, 1) := by decide +kernel
theorem dX0_forgetFirst_81 : decode cX0_forgetFirst 81 = .ok (.getfield 29, 3) := by decide +kernel
theorem dX0_forgetFirst_84 : decode cX0_forgetFirst 84 = .ok (.iload 4, 2) := by decide +kernel
theorem dX0_forgetFirst_86 : decode cX0_forgetFirst 86 = .ok (.baload, 1) := by decide +kernel
theorem dX0_forgetFirst_87 : decode cX0_forgetFirst 87 = .ok (.iload_n 1, 1) := by decide +kernel
theorem dX0_forgetFirst_88 : decode cX0_forgetFirst 88 = .ok (.if_icmp .ne 11, 3) := by decide +kernel
theorem dX0_forgetFirst_91 : decode cX0_forgetFirst 91 = .ok (.aload_n 0, 1) := by decide +kernel
theorem dX0_forgetFirst_92 : decode cX0_forgetFirst 92 = .ok (.getfield 29, 3) := by decide +kernel
theorem dX0_forgetFirst_95 : decode cX0_forgetFirst 95 = .ok (.iload 4, 2) := by decide +kernel
theorem dX0_forgetFirst_97 : decode cX0_forgetFirst 97 = .ok (.iconst (-1), 1) := by decide +kernel
theorem dX0_forgetFirst_98 : decode cX0_forgetFirst 98 = .ok (.bastore, 1) := by decide +kernel
theorem dX0_forgetFirst_99 : decode cX0_forgetFirst 99 = .ok (.iinc 4 1, 3) := by decide +kernel
theorem dX0_forgetFirst_102 : decode cX0_forgetFirst 102 = .ok (.goto (-41), 3) := by decide +kernel
theorem dX0_forgetFirst_105 : decode cX0_forgetFirst 105 = .ok (.aload_n 0, 1) := by decide +kernel
theorem dX0_forgetFirst_106 : decode cX0_forgetFirst 106 = .ok (.iload_n 1, 1) := by decide +kernel
theorem dX0_forgetFirst_107 : decode cX0_forgetFirst 107 = .ok (.invokevirtual 92, 3) := by decide +kernel
theorem dX0_forgetFirst_110 : decode cX0_forgetFirst 110 = .ok (.return_, 1) := by decide +kernel
abbrev cX0_unlink : ByteArray := prog_1_method_12_code
def yX0_unlink : MethodName := ⟨RX0, "unlink", "(I)V"⟩
theorem dX0_unlink_0 : decode cX0_unlink 0 = .ok (.aload_n 0, 1) := by decide +kernel
theorem dX0_unlink_1 : decode cX0_unlink 1 = .ok (.getfield 32, 3) := by decide +kernel
theorem dX0_unlink_4 : decode cX0_unlink 4 = .ok (.iload_n 1, 1) := by decide +kernel
theorem dX0_unlink_5 : decode cX0_unlink 5 = .ok (.baload, 1) := by decide +kernel
theorem dX0_unlink_6 : decode cX0_unlink 6 = .ok (.istore_n 2, 1) := by decide +kernel
theorem dX0_unlink_7 : decode cX0_unlink 7 = .ok (.aload_n 0, 1) := by decide +kernel
theorem dX0_unlink_8 : decode cX0_unlink 8 = .ok (.getfield 35, 3) := by decide +kernel
theorem dX0_unlink_11 : decode cX0_unlink 11 = .ok (.iload_n 1, 1) := by decide +kernel
theorem dX0_unlink_12 : decode cX0_unlink 12 = .ok (.baload, 1) := by decide +kernel
theorem dX0_unlink_13 : decode cX0_unlink 13 = .ok (.istore_n 3, 1) := by decide +kernel
theorem dX0_unlink_14 : decode cX0_unlink 14 = .ok (.iload_n 2, 1) := by decide +kernel
theorem dX0_unlink_15 : decode cX0_unlink 15 = .ok (.ifCond .lt 14, 3) := by decide +kernel
theorem dX0_unlink_18 : decode cX0_unlink 18 = .ok (.aload_n 0, 1) := by decide +kernel
theorem dX0_unlink_19 : decode cX0_unlink 19 = .ok (.getfield 35, 3) := by decide +kernel
theorem dX0_unlink_22 : decode cX0_unlink 22 = .ok (.iload_n 2, 1) := by decide +kernel
theorem dX0_unlink_23 : decode cX0_unlink 23 = .ok (.iload_n 3, 1) := by decide +kernel
theorem dX0_unlink_24 : decode cX0_unlink 24 = .ok (.i2b, 1) := by decide +kernel
theorem dX0_unlink_25 : decode cX0_unlink 25 = .ok (.bastore, 1) := by decide +kernel
theorem dX0_unlink_26 : decode cX0_unlink 26 = .ok (.goto 8, 3) := by decide +kernel
theorem dX0_unlink_29 : decode cX0_unlink 29 = .ok (.aload_n 0, 1) := by decide +kernel
theorem dX0_unlink_30 : decode cX0_unlink 30 = .ok (.iload_n 3, 1) := by decide +kernel
theorem dX0_unlink_31 : decode cX0_unlink 31 = .ok (.putfield 47, 3) := by decide +kernel
theorem dX0_unlink_34 : decode cX0_unlink 34 = .ok (.iload_n 3, 1) := by decide +kernel
theorem dX0_unlink_35 : decode cX0_unlink 35 = .ok (.ifCond .lt 14, 3) := by decide +kernel
theorem dX0_unlink_38 : decode cX0_unlink 38 = .ok (.aload_n 0, 1) := by decide +kernel
theorem dX0_unlink_39 : decode cX0_unlink 39 = .ok (.getfield 32, 3) := by decide +kernel
theorem dX0_unlink_42 : decode cX0_unlink 42 = .ok (.iload_n 3, 1) := by decide +kernel
theorem dX0_unlink_43 : decode cX0_unlink 43 = .ok (.iload_n 2, 1) := by decide +kernel
theorem dX0_unlink_44 : decode cX0_unlink 44 = .ok (.i2b, 1) := by decide +kernel
theorem dX0_unlink_45 : decode cX0_unlink 45 = .ok (.bastore, 1) := by decide +kernel
theorem dX0_unlink_46 : decode cX0_unlink 46 = .ok (.goto 8, 3) := by decide +kernel
theorem dX0_unlink_49 : decode cX0_unlink 49 = .ok (.aload_n 0, 1) := by decide +kernel
theorem dX0_unlink_50 : decode cX0_unlink 50 = .ok (.iload_n 2, 1) := by decide +kernel
theorem dX0_unlink_51 : decode cX0_unlink 51 = .ok (.putfield 51, 3) := by decide +kernel
theorem dX0_unlink_54 : decode cX0_unlink 54 = .ok (.aload_n 0, 1) := by decide +kernel
theorem dX0_unlink_55 : decode cX0_unlink 55 = .ok (.dup, 1) := by decide +kernel
theorem dX0_unlink_56 : decode cX0_unlink 56 = .ok (.getfield 95, 3) := by decide +kernel
theorem dX0_unlink_59 : decode cX0_unlink 59 = .ok (.iconst 1, 1) := by decide +kernel
theorem dX0_unlink_60 : decode cX0_unlink 60 = .ok (.iload_n 1, 1) := by decide +kernel
theorem dX0_unlink_61 : decode cX0_unlink 61 = .ok (.ishl, 1) := by decide +kernel
theorem dX0_unlink_62 : decode cX0_unlink 62 = .ok (.iconst (-1), 1) := by decide +kernel
theorem dX0_unlink_63 : decode cX0_unlink 63 = .ok (.ixor, 1) := by decide +kernel
theorem dX0_unlink_64 : decode cX0_unlink 64 = .ok (.iand, 1) := by decide +kernel
theorem dX0_unlink_65 : decode cX0_unlink 65 = .ok (.putfield 95, 3) := by decide +kernel
theorem dX0_unlink_68 : decode cX0_unlink 68 = .ok (.aload_n 0, 1) := by decide +kernel
theorem dX0_unlink_69 : decode cX0_unlink 69 = .ok (.dup, 1) := by decide +kernel
theorem dX0_unlink_70 : decode cX0_unlink 70 = .ok (.getfield 75, 3) := by decide +kernel
theorem dX0_unlink_73 : decode cX0_unlink 73 = .ok (.iconst 1, 1) := by decide +kernel
theorem dX0_unlink_74 : decode cX0_unlink 74 = .ok (.isub, 1) := by decide +kernel
theorem dX0_unlink_75 : decode cX0_unlink 75 = .ok (.putfield 75, 3) := by decide +kernel
theorem dX0_unlink_78 : decode cX0_unlink 78 = .ok (.aload_n 0, 1) := by decide +kernel
theorem dX0_unlink_79 : decode cX0_unlink 79 = .ok (.getfield 26, 3) := by decide +kernel
theorem dX0_unlink_82 : decode cX0_unlink 82 = .ok (.iload_n 1, 1) := by decide +kernel
theorem dX0_unlink_83 : decode cX0_unlink 83 = .ok (.baload, 1) := by decide +kernel
theorem dX0_unlink_84 : decode cX0_unlink 84 = .ok (.istore 4, 2) := by decide +kernel
theorem dX0_unlink_86 : decode cX0_unlink 86 = .ok (.aload_n 0, 1) := by decide +kernel
theorem dX0_unlink_87 : decode cX0_unlink 87 = .ok (.getfield 38, 3) := by decide +kernel
theorem dX0_unlink_90 : decode cX0_unlink 90 = .ok (.iload 4, 2) := by decide +kernel
theorem dX0_unlink_92 : decode cX0_unlink 92 = .ok (.dup2, 1) := by decide +kernel
theorem dX0_unlink_93 : decode cX0_unlink 93 = .ok (.baload, 1) := by decide +kernel
theorem dX0_unlink_94 : decode cX0_unlink 94 = .ok (.iconst 1, 1) := by decide +kernel
theorem dX0_unlink_95 : decode cX0_unlink 95 = .ok (.isub, 1) := by decide +kernel
theorem dX0_unlink_96 : decode cX0_unlink 96 = .ok (.i2b, 1) := by decide +kernel
theorem dX0_unlink_97 : decode cX0_unlink 97 = .ok (.bastore, 1) := by decide +kernel
theorem dX0_unlink_98 : decode cX0_unlink 98 = .ok (.aload_n 0, 1) := by decide +kernel
theorem dX0_unlink_99 : decode cX0_unlink 99 = .ok (.getfield 38, 3) := by decide +kernel
theorem dX0_unlink_102 : decode cX0_unlink 102 = .ok (.iload 4, 2) := by decide +kernel
theorem dX0_unlink_104 : decode cX0_unlink 104 = .ok (.baload, 1) := by decide +kernel
theorem dX0_unlink_105 : decode cX0_unlink 105 = .ok (.ifCond .ne 27, 3) := by decide +kernel
theorem dX0_unlink_108 : decode cX0_unlink 108 = .ok (.aload_n 0, 1) := by decide +kernel
theorem dX0_unlink_109 : decode cX0_unlink 109 = .ok (.iload 4, 2) := by decide +kernel
theorem dX0_unlink_111 : decode cX0_unlink 111 = .ok (.invokevirtual 61, 3) := by decide +kernel
theorem dX0_unlink_114 : decode cX0_unlink 114 = .ok (.ifCond .ne 18, 3) := by decide +kernel
theorem dX0_unlink_117 : decode cX0_unlink 117 = .ok (.aload_n 0, 1) := by decide +kernel
theorem dX0_unlink_118 : decode cX0_unlink 118 = .ok (.dup, 1) := by decide +kernel
theorem dX0_unlink_119 : decode cX0_unlink 119 = .ok (.getfield 54, 3) := by decide +kernel
theorem dX0_unlink_122 : decode cX0_unlink 122 = .ok (.iconst 1, 1) := by decide +kernel
theorem dX0_unlink_123 : decode cX0_unlink 123 = .ok (.iload 4, 2) := by decide +kernel
end
section
set_option maxRecDepth 100000
theorem dX0_unlink_125 : decode cX0_unlink 125 = .ok (.ishl, 1) := by decide +kernel
theorem dX0_unlink_126 : decode cX0_unlink 126 = .ok (.iconst (-1), 1) := by decide +kernel
theorem dX0_unlink_127 : decode cX0_unlink 127 = .ok (.ixor, 1) := by decide +kernel
theorem dX0_unlink_128 : decode cX0_unlink 128 = .ok (.iand, 1) := by decide +kernel
theorem dX0_unlink_129 : decode cX0_unlink 129 = .ok (.putfield 54, 3) := by decide +kernel
theorem dX0_unlink_132 : decode cX0_unlink 132 = .ok (.return_, 1) := by decide +kernel
abbrev cX0_open : ByteArray := prog_1_method_6_code
def yX0_open : MethodName := ⟨RX0, "open", "(I)V"⟩
theorem dX0_open_0 : decode cX0_open 0 = .ok (.aload_n 0, 1) := by decide +kernel
theorem dX0_open_1 : decode cX0_open 1 = .ok (.invokevirtual 57, 3) := by decide +kernel
theorem dX0_open_4 : decode cX0_open 4 = .ok (.istore_n 2, 1) := by decide +kernel
theorem dX0_open_5 : decode cX0_open 5 = .ok (.aload_n 0, 1) := by decide +kernel
theorem dX0_open_6 : decode cX0_open 6 = .ok (.dup, 1) := by decide +kernel
theorem dX0_open_7 : decode cX0_open 7 = .ok (.getfield 54, 3) := by decide +kernel
theorem dX0_open_10 : decode cX0_open 10 = .ok (.iconst 1, 1) := by decide +kernel
theorem dX0_open_11 : decode cX0_open 11 = .ok (.iload_n 2, 1) := by decide +kernel
theorem dX0_open_12 : decode cX0_open 12 = .ok (.ishl, 1) := by decide +kernel
theorem dX0_open_13 : decode cX0_open 13 = .ok (.ior, 1) := by decide +kernel
theorem dX0_open_14 : decode cX0_open 14 = .ok (.putfield 54, 3) := by decide +kernel
theorem dX0_open_17 : decode cX0_open 17 = .ok (.aload_n 0, 1) := by decide +kernel
theorem dX0_open_18 : decode cX0_open 18 = .ok (.getfield 38, 3) := by decide +kernel
theorem dX0_open_21 : decode cX0_open 21 = .ok (.iload_n 2, 1) := by decide +kernel
theorem dX0_open_22 : decode cX0_open 22 = .ok (.iconst 0, 1) := by decide +kernel
theorem dX0_open_23 : decode cX0_open 23 = .ok (.bastore, 1) := by decide +kernel
theorem dX0_open_24 : decode cX0_open 24 = .ok (.aload_n 0, 1) := by decide +kernel
theorem dX0_open_25 : decode cX0_open 25 = .ok (.getfield 41, 3) := by decide +kernel
theorem dX0_open_28 : decode cX0_open 28 = .ok (.iload_n 2, 1) := by decide +kernel
theorem dX0_open_29 : decode cX0_open 29 = .ok (.iconst 0, 1) := by decide +kernel
theorem dX0_open_30 : decode cX0_open 30 = .ok (.iastore, 1) := by decide +kernel
theorem dX0_open_31 : decode cX0_open 31 = .ok (.aload_n 0, 1) := by decide +kernel
theorem dX0_open_32 : decode cX0_open 32 = .ok (.getfield 44, 3) := by decide +kernel
theorem dX0_open_35 : decode cX0_open 35 = .ok (.iload_n 1, 1) := by decide +kernel
theorem dX0_open_36 : decode cX0_open 36 = .ok (.iload_n 2, 1) := by decide +kernel
theorem dX0_open_37 : decode cX0_open 37 = .ok (.i2b, 1) := by decide +kernel
theorem dX0_open_38 : decode cX0_open 38 = .ok (.bastore, 1) := by decide +kernel
theorem dX0_open_39 : decode cX0_open 39 = .ok (.return_, 1) := by decide +kernel
abbrev cX0_freePlace : ByteArray := prog_1_method_4_code
def yX0_freePlace : MethodName := ⟨RX0, "freePlace", "()I"⟩
theorem dX0_freePlace_0 : decode cX0_freePlace 0 = .ok (.iconst 0, 1) := by decide +kernel
theorem dX0_freePlace_1 : decode cX0_freePlace 1 = .ok (.istore_n 1, 1) := by decide +kernel
theorem dX0_freePlace_2 : decode cX0_freePlace 2 = .ok (.iload_n 1, 1) := by decide +kernel
theorem dX0_freePlace_3 : decode cX0_freePlace 3 = .ok (.bipush 32, 2) := by decide +kernel
theorem dX0_freePlace_5 : decode cX0_freePlace 5 = .ok (.if_icmp .ge 22, 3) := by decide +kernel
theorem dX0_freePlace_8 : decode cX0_freePlace 8 = .ok (.aload_n 0, 1) := by decide +kernel
theorem dX0_freePlace_9 : decode cX0_freePlace 9 = .ok (.getfield 54, 3) := by decide +kernel
theorem dX0_freePlace_12 : decode cX0_freePlace 12 = .ok (.iload_n 1, 1) := by decide +kernel
theorem dX0_freePlace_13 : decode cX0_freePlace 13 = .ok (.iushr, 1) := by decide +kernel
theorem dX0_freePlace_14 : decode cX0_freePlace 14 = .ok (.iconst 1, 1) := by decide +kernel
theorem dX0_freePlace_15 : decode cX0_freePlace 15 = .ok (.iand, 1) := by decide +kernel
theorem dX0_freePlace_16 : decode cX0_freePlace 16 = .ok (.ifCond .ne 5, 3) := by decide +kernel
theorem dX0_freePlace_19 : decode cX0_freePlace 19 = .ok (.iload_n 1, 1) := by decide +kernel
theorem dX0_freePlace_20 : decode cX0_freePlace 20 = .ok (.ireturn, 1) := by decide +kernel
theorem dX0_freePlace_21 : decode cX0_freePlace 21 = .ok (.iinc 1 1, 3) := by decide +kernel
theorem dX0_freePlace_24 : decode cX0_freePlace 24 = .ok (.goto (-22), 3) := by decide +kernel
theorem dX0_freePlace_27 : decode cX0_freePlace 27 = .ok (.iconst 0, 1) := by decide +kernel
theorem dX0_freePlace_28 : decode cX0_freePlace 28 = .ok (.ireturn, 1) := by decide +kernel
abbrev cX0_note : ByteArray := prog_1_method_11_code
def yX0_note : MethodName := ⟨RX0, "note", "(II)V"⟩
theorem dX0_note_0 : decode cX0_note 0 = .ok (.iconst 0, 1) := by decide +kernel
theorem dX0_note_1 : decode cX0_note 1 = .ok (.istore_n 3, 1) := by decide +kernel
theorem dX0_note_2 : decode cX0_note 2 = .ok (.iload_n 3, 1) := by decide +kernel
theorem dX0_note_3 : decode cX0_note 3 = .ok (.bipush 23, 2) := by decide +kernel
theorem dX0_note_5 : decode cX0_note 5 = .ok (.if_icmp .ge 20, 3) := by decide +kernel
theorem dX0_note_8 : decode cX0_note 8 = .ok (.aload_n 0, 1) := by decide +kernel
theorem dX0_note_9 : decode cX0_note 9 = .ok (.getfield 95, 3) := by decide +kernel
theorem dX0_note_12 : decode cX0_note 12 = .ok (.iload_n 3, 1) := by decide +kernel
theorem dX0_note_13 : decode cX0_note 13 = .ok (.ishr, 1) := by decide +kernel
theorem dX0_note_14 : decode cX0_note 14 = .ok (.iconst 1, 1) := by decide +kernel
theorem dX0_note_15 : decode cX0_note 15 = .ok (.iand, 1) := by decide +kernel
theorem dX0_note_16 : decode cX0_note 16 = .ok (.ifCond .eq 9, 3) := by decide +kernel
theorem dX0_note_19 : decode cX0_note 19 = .ok (.iinc 3 1, 3) := by decide +kernel
theorem dX0_note_22 : decode cX0_note 22 = .ok (.goto (-20), 3) := by decide +kernel
theorem dX0_note_25 : decode cX0_note 25 = .ok (.aload_n 0, 1) := by decide +kernel
theorem dX0_note_26 : decode cX0_note 26 = .ok (.dup, 1) := by decide +kernel
theorem dX0_note_27 : decode cX0_note 27 = .ok (.getfield 95, 3) := by decide +kernel
theorem dX0_note_30 : decode cX0_note 30 = .ok (.iconst 1, 1) := by decide +kernel
theorem dX0_note_31 : decode cX0_note 31 = .ok (.iload_n 3, 1) := by decide +kernel
theorem dX0_note_32 : decode cX0_note 32 = .ok (.ishl, 1) := by decide +kernel
theorem dX0_note_33 : decode cX0_note 33 = .ok (.ior, 1) := by decide +kernel
theorem dX0_note_34 : decode cX0_note 34 = .ok (.putfield 95, 3) := by decide +kernel
theorem dX0_note_37 : decode cX0_note 37 = .ok (.aload_n 0, 1) := by decide +kernel
theorem dX0_note_38 : decode cX0_note 38 = .ok (.getfield 20, 3) := by decide +kernel
theorem dX0_note_41 : decode cX0_note 41 = .ok (.iload_n 3, 1) := by decide +kernel
theorem dX0_note_42 : decode cX0_note 42 = .ok (.iload_n 1, 1) := by decide +kernel
theorem dX0_note_43 : decode cX0_note 43 = .ok (.i2b, 1) := by decide +kernel
theorem dX0_note_44 : decode cX0_note 44 = .ok (.bastore, 1) := by decide +kernel
theorem dX0_note_45 : decode cX0_note 45 = .ok (.aload_n 0, 1) := by decide +kernel
theorem dX0_note_46 : decode cX0_note 46 = .ok (.getfield 23, 3) := by decide +kernel
theorem dX0_note_49 : decode cX0_note 49 = .ok (.iload_n 3, 1) := by decide +kernel
theorem dX0_note_50 : decode cX0_note 50 = .ok (.aload_n 0, 1) := by decide +kernel
theorem dX0_note_51 : decode cX0_note 51 = .ok (.getfield 7, 3) := by decide +kernel
theorem dX0_note_54 : decode cX0_note 54 = .ok (.iload_n 1, 1) := by decide +kernel
theorem dX0_note_55 : decode cX0_note 55 = .ok (.iaload, 1) := by decide +kernel
theorem dX0_note_56 : decode cX0_note 56 = .ok (.iastore, 1) := by decide +kernel
theorem dX0_note_57 : decode cX0_note 57 = .ok (.aload_n 0, 1) := by decide +kernel
theorem dX0_note_58 : decode cX0_note 58 = .ok (.getfield 26, 3) := by decide +kernel
theorem dX0_note_61 : decode cX0_note 61 = .ok (.iload_n 3, 1) := by decide +kernel
theorem dX0_note_62 : decode cX0_note 62 = .ok (.iload_n 2, 1) := by decide +kernel
theorem dX0_note_63 : decode cX0_note 63 = .ok (.i2b, 1) := by decide +kernel
theorem dX0_note_64 : decode cX0_note 64 = .ok (.bastore, 1) := by decide +kernel
theorem dX0_note_65 : decode cX0_note 65 = .ok (.aload_n 0, 1) := by decide +kernel
theorem dX0_note_66 : decode cX0_note 66 = .ok (.getfield 38, 3) := by decide +kernel
theorem dX0_note_69 : decode cX0_note 69 = .ok (.iload_n 2, 1) := by decide +kernel
theorem dX0_note_70 : decode cX0_note 70 = .ok (.dup2, 1) := by decide +kernel
theorem dX0_note_71 : decode cX0_note 71 = .ok (.baload, 1) := by decide +kernel
theorem dX0_note_72 : decode cX0_note 72 = .ok (.iconst 1, 1) := by decide +kernel
theorem dX0_note_73 : decode cX0_note 73 = .ok (.iadd, 1) := by decide +kernel
theorem dX0_note_74 : decode cX0_note 74 = .ok (.i2b, 1) := by decide +kernel
theorem dX0_note_75 : decode cX0_note 75 = .ok (.bastore, 1) := by decide +kernel
theorem dX0_note_76 : decode cX0_note 76 = .ok (.aload_n 0, 1) := by decide +kernel
theorem dX0_note_77 : decode cX0_note 77 = .ok (.getfield 29, 3) := by decide +kernel
theorem dX0_note_80 : decode cX0_note 80 = .ok (.iload_n 3, 1) := by decide +kernel
theorem dX0_note_81 : decode cX0_note 81 = .ok (.aload_n 0, 1) := by decide +kernel
theorem dX0_note_82 : decode cX0_note 82 = .ok (.getfield 13, 3) := by decide +kernel
theorem dX0_note_85 : decode cX0_note 85 = .ok (.iload_n 1, 1) := by decide +kernel
theorem dX0_note_86 : decode cX0_note 86 = .ok (.baload, 1) := by decide +kernel
theorem dX0_note_87 : decode cX0_note 87 = .ok (.bastore, 1) := by decide +kernel
theorem dX0_note_88 : decode cX0_note 88 = .ok (.aload_n 0, 1) := by decide +kernel
theorem dX0_note_89 : decode cX0_note 89 = .ok (.getfield 13, 3) := by decide +kernel
theorem dX0_note_92 : decode cX0_note 92 = .ok (.iload_n 1, 1) := by decide +kernel
theorem dX0_note_93 : decode cX0_note 93 = .ok (.iload_n 3, 1) := by decide +kernel
theorem dX0_note_94 : decode cX0_note 94 = .ok (.i2b, 1) := by decide +kernel
theorem dX0_note_95 : decode cX0_note 95 = .ok (.bastore, 1) := by decide +kernel
theorem dX0_note_96 : decode cX0_note 96 = .ok (.aload_n 0, 1) := by decide +kernel
theorem dX0_note_97 : decode cX0_note 97 = .ok (.getfield 32, 3) := by decide +kernel
theorem dX0_note_100 : decode cX0_note 100 = .ok (.iload_n 3, 1) := by decide +kernel
theorem dX0_note_101 : decode cX0_note 101 = .ok (.aload_n 0, 1) := by decide +kernel
theorem dX0_note_102 : decode cX0_note 102 = .ok (.getfield 51, 3) := by decide +kernel
theorem dX0_note_105 : decode cX0_note 105 = .ok (.i2b, 1) := by decide +kernel
theorem dX0_note_106 : decode cX0_note 106 = .ok (.bastore, 1) := by decide +kernel
theorem dX0_note_107 : decode cX0_note 107 = .ok (.aload_n 0, 1) := by decide +kernel
theorem dX0_note_108 : decode cX0_note 108 = .ok (.getfield 35, 3) := by decide +kernel
theorem dX0_note_111 : decode cX0_note 111 = .ok (.iload_n 3, 1) := by decide +kernel
theorem dX0_note_112 : decode cX0_note 112 = .ok (.iconst (-1), 1) := by decide +kernel
theorem dX0_note_113 : decode cX0_note 113 = .ok (.bastore, 1) := by decide +kernel
theorem dX0_note_114 : decode cX0_note 114 = .ok (.aload_n 0, 1) := by decide +kernel
theorem dX0_note_115 : decode cX0_note 115 = .ok (.getfield 51, 3) := by decide +kernel
theorem dX0_note_118 : decode cX0_note 118 = .ok (.ifCond .lt 17, 3) := by decide +kernel
theorem dX0_note_121 : decode cX0_note 121 = .ok (.aload_n 0, 1) := by decide +kernel
theorem dX0_note_122 : decode cX0_note 122 = .ok (.getfield 35, 3) := by decide +kernel
theorem dX0_note_125 : decode cX0_note 125 = .ok (.aload_n 0, 1) := by decide +kernel
theorem dX0_note_126 : decode cX0_note 126 = .ok (.getfield 51, 3) := by decide +kernel
theorem dX0_note_129 : decode cX0_note 129 = .ok (.iload_n 3, 1) := by decide +kernel
theorem dX0_note_130 : decode cX0_note 130 = .ok (.i2b, 1) := by decide +kernel
theorem dX0_note_131 : decode cX0_note 131 = .ok (.bastore, 1) := by decide +kernel
theorem dX0_note_132 : decode cX0_note 132 = .ok (.goto 8, 3) := by decide +kernel
theorem dX0_note_135 : decode cX0_note 135 = .ok (.aload_n 0, 1) := by decide +kernel
theorem dX0_note_136 : decode cX0_note 136 = .ok (.iload_n 3, 1) := by decide +kernel
theorem dX0_note_137 : decode cX0_note 137 = .ok (.putfield 47, 3) := by decide +kernel
theorem dX0_note_140 : decode cX0_note 140 = .ok (.aload_n 0, 1) := by decide +kernel
theorem dX0_note_141 : decode cX0_note 141 = .ok (.iload_n 3, 1) := by decide +kernel
theorem dX0_note_142 : decode cX0_note 142 = .ok (.putfield 51, 3) := by decide +kernel
theorem dX0_note_145 : decode cX0_note 145 = .ok (.aload_n 0, 1) := by decide +kernel
theorem dX0_note_146 : decode cX0_note 146 = .ok (.dup, 1) := by decide +kernel
theorem dX0_note_147 : decode cX0_note 147 = .ok (.getfield 75, 3) := by decide +kernel
theorem dX0_note_150 : decode cX0_note 150 = .ok (.iconst 1, 1) := by decide +kernel
theorem dX0_note_151 : decode cX0_note 151 = .ok (.iadd, 1) := by decide +kernel
theorem dX0_note_152 : decode cX0_note 152 = .ok (.putfield 75, 3) := by decide +kernel
theorem dX0_note_155 : decode cX0_note 155 = .ok (.return_, 1) := by decide +kernel
abbrev cX0_commit : ByteArray := prog_1_method_9_code
def yX0_commit : MethodName := ⟨RX0, "commit", "(I)I"⟩
theorem dX0_commit_0 : decode cX0_commit 0 = .ok (.iload_n 1, 1) := by decide +kernel
theorem dX0_commit_1 : decode cX0_commit 1 = .ok (.invokestatic 65, 3) := by decide +kernel
theorem dX0_commit_4 : decode cX0_commit 4 = .ok (.ifCond .eq 12, 3) := by decide +kernel
theorem dX0_commit_7 : decode cX0_commit 7 = .ok (.aload_n 0, 1) := by decide +kernel
theorem dX0_commit_8 : decode cX0_commit 8 = .ok (.getfield 44, 3) := by decide +kernel
theorem dX0_commit_11 : decode cX0_commit 11 = .ok (.iload_n 1, 1) := by decide +kernel
theorem dX0_commit_12 : decode cX0_commit 12 = .ok (.baload, 1) := by decide +kernel
theorem dX0_commit_13 : decode cX0_commit 13 = .ok (.ifCond .ge 6, 3) := by decide +kernel
theorem dX0_commit_16 : decode cX0_commit 16 = .ok (.bipush (-4), 2) := by decide +kernel
theorem dX0_commit_18 : decode cX0_commit 18 = .ok (.ireturn, 1) := by decide +kernel
theorem dX0_commit_19 : decode cX0_commit 19 = .ok (.aload_n 0, 1) := by decide +kernel
theorem dX0_commit_20 : decode cX0_commit 20 = .ok (.dup, 1) := by decide +kernel
theorem dX0_commit_21 : decode cX0_commit 21 = .ok (.getfield 89, 3) := by decide +kernel
theorem dX0_commit_24 : decode cX0_commit 24 = .ok (.iconst 1, 1) := by decide +kernel
theorem dX0_commit_25 : decode cX0_commit 25 = .ok (.iadd, 1) := by decide +kernel
theorem dX0_commit_26 : decode cX0_commit 26 = .ok (.putfield 89, 3) := by decide +kernel
theorem dX0_commit_29 : decode cX0_commit 29 = .ok (.aload_n 0, 1) := by decide +kernel
theorem dX0_commit_30 : decode cX0_commit 30 = .ok (.getfield 41, 3) := by decide +kernel
theorem dX0_commit_33 : decode cX0_commit 33 = .ok (.aload_n 0, 1) := by decide +kernel
theorem dX0_commit_34 : decode cX0_commit 34 = .ok (.getfield 44, 3) := by decide +kernel
theorem dX0_commit_37 : decode cX0_commit 37 = .ok (.iload_n 1, 1) := by decide +kernel
theorem dX0_commit_38 : decode cX0_commit 38 = .ok (.baload, 1) := by decide +kernel
theorem dX0_commit_39 : decode cX0_commit 39 = .ok (.aload_n 0, 1) := by decide +kernel
theorem dX0_commit_40 : decode cX0_commit 40 = .ok (.getfield 89, 3) := by decide +kernel
theorem dX0_commit_43 : decode cX0_commit 43 = .ok (.iastore, 1) := by decide +kernel
theorem dX0_commit_44 : decode cX0_commit 44 = .ok (.aload_n 0, 1) := by decide +kernel
theorem dX0_commit_45 : decode cX0_commit 45 = .ok (.getfield 44, 3) := by decide +kernel
theorem dX0_commit_48 : decode cX0_commit 48 = .ok (.iload_n 1, 1) := by decide +kernel
theorem dX0_commit_49 : decode cX0_commit 49 = .ok (.iconst (-1), 1) := by decide +kernel
theorem dX0_commit_50 : decode cX0_commit 50 = .ok (.bastore, 1) := by decide +kernel
theorem dX0_commit_51 : decode cX0_commit 51 = .ok (.aload_n 0, 1) := by decide +kernel
theorem dX0_commit_52 : decode cX0_commit 52 = .ok (.getfield 89, 3) := by decide +kernel
theorem dX0_commit_55 : decode cX0_commit 55 = .ok (.ireturn, 1) := by decide +kernel
abbrev cX0_rollback : ByteArray := prog_1_method_10_code
def yX0_rollback : MethodName := ⟨RX0, "rollback", "(I)I"⟩
theorem dX0_rollback_0 : decode cX0_rollback 0 = .ok (.iload_n 1, 1) := by decide +kernel
theorem dX0_rollback_1 : decode cX0_rollback 1 = .ok (.invokestatic 65, 3) := by decide +kernel
theorem dX0_rollback_4 : decode cX0_rollback 4 = .ok (.ifCond .eq 12, 3) := by decide +kernel
theorem dX0_rollback_7 : decode cX0_rollback 7 = .ok (.aload_n 0, 1) := by decide +kernel
theorem dX0_rollback_8 : decode cX0_rollback 8 = .ok (.getfield 44, 3) := by decide +kernel
theorem dX0_rollback_11 : decode cX0_rollback 11 = .ok (.iload_n 1, 1) := by decide +kernel
theorem dX0_rollback_12 : decode cX0_rollback 12 = .ok (.baload, 1) := by decide +kernel
theorem dX0_rollback_13 : decode cX0_rollback 13 = .ok (.ifCond .ge 6, 3) := by decide +kernel
theorem dX0_rollback_16 : decode cX0_rollback 16 = .ok (.bipush (-4), 2) := by decide +kernel
theorem dX0_rollback_18 : decode cX0_rollback 18 = .ok (.ireturn, 1) := by decide +kernel
theorem dX0_rollback_19 : decode cX0_rollback 19 = .ok (.aload_n 0, 1) := by decide +kernel
theorem dX0_rollback_20 : decode cX0_rollback 20 = .ok (.getfield 44, 3) := by decide +kernel
theorem dX0_rollback_23 : decode cX0_rollback 23 = .ok (.iload_n 1, 1) := by decide +kernel
theorem dX0_rollback_24 : decode cX0_rollback 24 = .ok (.baload, 1) := by decide +kernel
theorem dX0_rollback_25 : decode cX0_rollback 25 = .ok (.istore_n 2, 1) := by decide +kernel
theorem dX0_rollback_26 : decode cX0_rollback 26 = .ok (.iconst 0, 1) := by decide +kernel
theorem dX0_rollback_27 : decode cX0_rollback 27 = .ok (.istore_n 3, 1) := by decide +kernel
theorem dX0_rollback_28 : decode cX0_rollback 28 = .ok (.iload_n 3, 1) := by decide +kernel
theorem dX0_rollback_29 : decode cX0_rollback 29 = .ok (.bipush 8, 2) := by decide +kernel
theorem dX0_rollback_31 : decode cX0_rollback 31 = .ok (.if_icmp .ge 89, 3) := by decide +kernel
theorem dX0_rollback_34 : decode cX0_rollback 34 = .ok (.iconst 0, 1) := by decide +kernel
theorem dX0_rollback_35 : decode cX0_rollback 35 = .ok (.istore 4, 2) := by decide +kernel
theorem dX0_rollback_37 : decode cX0_rollback 37 = .ok (.iload 4, 2) := by decide +kernel
theorem dX0_rollback_39 : decode cX0_rollback 39 = .ok (.bipush 24, 2) := by decide +kernel
theorem dX0_rollback_41 : decode cX0_rollback 41 = .ok (.if_icmp .ge 73, 3) := by decide +kernel
theorem dX0_rollback_44 : decode cX0_rollback 44 = .ok (.aload_n 0, 1) := by decide +kernel
theorem dX0_rollback_45 : decode cX0_rollback 45 = .ok (.getfield 13, 3) := by decide +kernel
theorem dX0_rollback_48 : decode cX0_rollback 48 = .ok (.iload_n 3, 1) := by decide +kernel
theorem dX0_rollback_49 : decode cX0_rollback 49 = .ok (.baload, 1) := by decide +kernel
theorem dX0_rollback_50 : decode cX0_rollback 50 = .ok (.ifCond .lt 64, 3) := by decide +kernel
theorem dX0_rollback_53 : decode cX0_rollback 53 = .ok (.aload_n 0, 1) := by decide +kernel
theorem dX0_rollback_54 : decode cX0_rollback 54 = .ok (.getfield 26, 3) := by decide +kernel
theorem dX0_rollback_57 : decode cX0_rollback 57 = .ok (.aload_n 0, 1) := by decide +kernel
theorem dX0_rollback_58 : decode cX0_rollback 58 = .ok (.getfield 13, 3) := by decide +kernel
theorem dX0_rollback_61 : decode cX0_rollback 61 = .ok (.iload_n 3, 1) := by decide +kernel
theorem dX0_rollback_62 : decode cX0_rollback 62 = .ok (.baload, 1) := by decide +kernel
theorem dX0_rollback_63 : decode cX0_rollback 63 = .ok (.baload, 1) := by decide +kernel
theorem dX0_rollback_64 : decode cX0_rollback 64 = .ok (.iload_n 2, 1) := by decide +kernel
theorem dX0_rollback_65 : decode cX0_rollback 65 = .ok (.if_icmp .ne 49, 3) := by decide +kernel
theorem dX0_rollback_68 : decode cX0_rollback 68 = .ok (.aload_n 0, 1) := by decide +kernel
theorem dX0_rollback_69 : decode cX0_rollback 69 = .ok (.getfield 13, 3) := by decide +kernel
theorem dX0_rollback_72 : decode cX0_rollback 72 = .ok (.iload_n 3, 1) := by decide +kernel
theorem dX0_rollback_73 : decode cX0_rollback 73 = .ok (.baload, 1) := by decide +kernel
theorem dX0_rollback_74 : decode cX0_rollback 74 = .ok (.istore 5, 2) := by decide +kernel
theorem dX0_rollback_76 : decode cX0_rollback 76 = .ok (.aload_n 0, 1) := by decide +kernel
theorem dX0_rollback_77 : decode cX0_rollback 77 = .ok (.getfield 7, 3) := by decide +kernel
theorem dX0_rollback_80 : decode cX0_rollback 80 = .ok (.iload_n 3, 1) := by decide +kernel
theorem dX0_rollback_81 : decode cX0_rollback 81 = .ok (.aload_n 0, 1) := by decide +kernel
theorem dX0_rollback_82 : decode cX0_rollback 82 = .ok (.getfield 23, 3) := by decide +kernel
theorem dX0_rollback_85 : decode cX0_rollback 85 = .ok (.iload 5, 2) := by decide +kernel
theorem dX0_rollback_87 : decode cX0_rollback 87 = .ok (.iaload, 1) := by decide +kernel
theorem dX0_rollback_88 : decode cX0_rollback 88 = .ok (.iastore, 1) := by decide +kernel
theorem dX0_rollback_89 : decode cX0_rollback 89 = .ok (.aload_n 0, 1) := by decide +kernel
theorem dX0_rollback_90 : decode cX0_rollback 90 = .ok (.getfield 13, 3) := by decide +kernel
theorem dX0_rollback_93 : decode cX0_rollback 93 = .ok (.iload_n 3, 1) := by decide +kernel
theorem dX0_rollback_94 : decode cX0_rollback 94 = .ok (.aload_n 0, 1) := by decide +kernel
theorem dX0_rollback_95 : decode cX0_rollback 95 = .ok (.getfield 29, 3) := by decide +kernel
theorem dX0_rollback_98 : decode cX0_rollback 98 = .ok (.iload 5, 2) := by decide +kernel
theorem dX0_rollback_100 : decode cX0_rollback 100 = .ok (.baload, 1) := by decide +kernel
theorem dX0_rollback_101 : decode cX0_rollback 101 = .ok (.bastore, 1) := by decide +kernel
theorem dX0_rollback_102 : decode cX0_rollback 102 = .ok (.aload_n 0, 1) := by decide +kernel
theorem dX0_rollback_103 : decode cX0_rollback 103 = .ok (.iload 5, 2) := by decide +kernel
theorem dX0_rollback_105 : decode cX0_rollback 105 = .ok (.invokevirtual 92, 3) := by decide +kernel
theorem dX0_rollback_108 : decode cX0_rollback 108 = .ok (.iinc 4 1, 3) := by decide +kernel
theorem dX0_rollback_111 : decode cX0_rollback 111 = .ok (.goto (-74), 3) := by decide +kernel
theorem dX0_rollback_114 : decode cX0_rollback 114 = .ok (.iinc 3 1, 3) := by decide +kernel
theorem dX0_rollback_117 : decode cX0_rollback 117 = .ok (.goto (-89), 3) := by decide +kernel
theorem dX0_rollback_120 : decode cX0_rollback 120 = .ok (.aload_n 0, 1) := by decide +kernel
theorem dX0_rollback_121 : decode cX0_rollback 121 = .ok (.dup, 1) := by decide +kernel
theorem dX0_rollback_122 : decode cX0_rollback 122 = .ok (.getfield 54, 3) := by decide +kernel
theorem dX0_rollback_125 : decode cX0_rollback 125 = .ok (.iconst 1, 1) := by decide +kernel
theorem dX0_rollback_126 : decode cX0_rollback 126 = .ok (.iload_n 2, 1) := by decide +kernel
theorem dX0_rollback_127 : decode cX0_rollback 127 = .ok (.ishl, 1) := by decide +kernel
theorem dX0_rollback_128 : decode cX0_rollback 128 = .ok (.iconst (-1), 1) := by decide +kernel
theorem dX0_rollback_129 : decode cX0_rollback 129 = .ok (.ixor, 1) := by decide +kernel
theorem dX0_rollback_130 : decode cX0_rollback 130 = .ok (.iand, 1) := by decide +kernel
theorem dX0_rollback_131 : decode cX0_rollback 131 = .ok (.putfield 54, 3) := by decide +kernel
theorem dX0_rollback_134 : decode cX0_rollback 134 = .ok (.aload_n 0, 1) := by decide +kernel
theorem dX0_rollback_135 : decode cX0_rollback 135 = .ok (.getfield 44, 3) := by decide +kernel
theorem dX0_rollback_138 : decode cX0_rollback 138 = .ok (.iload_n 1, 1) := by decide +kernel
theorem dX0_rollback_139 : decode cX0_rollback 139 = .ok (.iconst (-1), 1) := by decide +kernel
theorem dX0_rollback_140 : decode cX0_rollback 140 = .ok (.bastore, 1) := by decide +kernel
theorem dX0_rollback_141 : decode cX0_rollback 141 = .ok (.iconst 0, 1) := by decide +kernel
theorem dX0_rollback_142 : decode cX0_rollback 142 = .ok (.ireturn, 1) := by decide +kernel
abbrev cX0_clock : ByteArray := prog_1_method_14_code
def yX0_clock : MethodName := ⟨RX0, "clock", "()I"⟩
theorem dX0_clock_0 : decode cX0_clock 0 = .ok (.aload_n 0, 1) := by decide +kernel
theorem dX0_clock_1 : decode cX0_clock 1 = .ok (.getfield 89, 3) := by decide +kernel
theorem dX0_clock_4 : decode cX0_clock 4 = .ok (.ireturn, 1) := by decide +kernel
abbrev cX0_read : ByteArray := prog_1_method_15_code
def yX0_read : MethodName := ⟨RX0, "read", "(III)I"⟩
theorem dX0_read_0 : decode cX0_read 0 = .ok (.iload_n 1, 1) := by decide +kernel
theorem dX0_read_1 : decode cX0_read 1 = .ok (.invokestatic 65, 3) := by decide +kernel
theorem dX0_read_4 : decode cX0_read 4 = .ok (.ifCond .eq 22, 3) := by decide +kernel
theorem dX0_read_7 : decode cX0_read 7 = .ok (.iload_n 2, 1) := by decide +kernel
theorem dX0_read_8 : decode cX0_read 8 = .ok (.invokestatic 68, 3) := by decide +kernel
theorem dX0_read_11 : decode cX0_read 11 = .ok (.ifCond .eq 15, 3) := by decide +kernel
theorem dX0_read_14 : decode cX0_read 14 = .ok (.iload_n 3, 1) := by decide +kernel
theorem dX0_read_15 : decode cX0_read 15 = .ok (.ifCond .lt 11, 3) := by decide +kernel
theorem dX0_read_18 : decode cX0_read 18 = .ok (.iload_n 3, 1) := by decide +kernel
theorem dX0_read_19 : decode cX0_read 19 = .ok (.aload_n 0, 1) := by decide +kernel
theorem dX0_read_20 : decode cX0_read 20 = .ok (.getfield 89, 3) := by decide +kernel
theorem dX0_read_23 : decode cX0_read 23 = .ok (.if_icmp .le 5, 3) := by decide +kernel
theorem dX0_read_26 : decode cX0_read 26 = .ok (.iconst (-1), 1) := by decide +kernel
theorem dX0_read_27 : decode cX0_read 27 = .ok (.ireturn, 1) := by decide +kernel
theorem dX0_read_28 : decode cX0_read 28 = .ok (.aload_n 0, 1) := by decide +kernel
theorem dX0_read_29 : decode cX0_read 29 = .ok (.iload_n 2, 1) := by decide +kernel
theorem dX0_read_30 : decode cX0_read 30 = .ok (.invokevirtual 71, 3) := by decide +kernel
theorem dX0_read_33 : decode cX0_read 33 = .ok (.istore 4, 2) := by decide +kernel
theorem dX0_read_35 : decode cX0_read 35 = .ok (.iload 4, 2) := by decide +kernel
theorem dX0_read_37 : decode cX0_read 37 = .ok (.ifCond .lt 21, 3) := by decide +kernel
theorem dX0_read_40 : decode cX0_read 40 = .ok (.iload 4, 2) := by decide +kernel
theorem dX0_read_42 : decode cX0_read 42 = .ok (.aload_n 0, 1) := by decide +kernel
theorem dX0_read_43 : decode cX0_read 43 = .ok (.getfield 44, 3) := by decide +kernel
theorem dX0_read_46 : decode cX0_read 46 = .ok (.iload_n 1, 1) := by decide +kernel
theorem dX0_read_47 : decode cX0_read 47 = .ok (.baload, 1) := by decide +kernel
theorem dX0_read_48 : decode cX0_read 48 = .ok (.if_icmp .ne 10, 3) := by decide +kernel
theorem dX0_read_51 : decode cX0_read 51 = .ok (.aload_n 0, 1) := by decide +kernel
theorem dX0_read_52 : decode cX0_read 52 = .ok (.getfield 7, 3) := by decide +kernel
theorem dX0_read_55 : decode cX0_read 55 = .ok (.iload_n 2, 1) := by decide +kernel
theorem dX0_read_56 : decode cX0_read 56 = .ok (.iaload, 1) := by decide +kernel
theorem dX0_read_57 : decode cX0_read 57 = .ok (.ireturn, 1) := by decide +kernel
theorem dX0_read_58 : decode cX0_read 58 = .ok (.aload_n 0, 1) := by decide +kernel
theorem dX0_read_59 : decode cX0_read 59 = .ok (.iload_n 2, 1) := by decide +kernel
theorem dX0_read_60 : decode cX0_read 60 = .ok (.iload_n 3, 1) := by decide +kernel
theorem dX0_read_61 : decode cX0_read 61 = .ok (.invokevirtual 98, 3) := by decide +kernel
theorem dX0_read_64 : decode cX0_read 64 = .ok (.ireturn, 1) := by decide +kernel
abbrev cX0_seen : ByteArray := prog_1_method_16_code
def yX0_seen : MethodName := ⟨RX0, "seen", "(II)I"⟩
theorem dX0_seen_0 : decode cX0_seen 0 = .ok (.aload_n 0, 1) := by decide +kernel
theorem dX0_seen_1 : decode cX0_seen 1 = .ok (.getfield 17, 3) := by decide +kernel
theorem dX0_seen_4 : decode cX0_seen 4 = .ok (.iload_n 1, 1) := by decide +kernel
theorem dX0_seen_5 : decode cX0_seen 5 = .ok (.iaload, 1) := by decide +kernel
theorem dX0_seen_6 : decode cX0_seen 6 = .ok (.iload_n 2, 1) := by decide +kernel
theorem dX0_seen_7 : decode cX0_seen 7 = .ok (.if_icmp .le 6, 3) := by decide +kernel
theorem dX0_seen_10 : decode cX0_seen 10 = .ok (.ldc 102, 2) := by decide +kernel
theorem dX0_seen_12 : decode cX0_seen 12 = .ok (.ireturn, 1) := by decide +kernel
theorem dX0_seen_13 : decode cX0_seen 13 = .ok (.aload_n 0, 1) := by decide +kernel
theorem dX0_seen_14 : decode cX0_seen 14 = .ok (.getfield 7, 3) := by decide +kernel
theorem dX0_seen_17 : decode cX0_seen 17 = .ok (.iload_n 1, 1) := by decide +kernel
theorem dX0_seen_18 : decode cX0_seen 18 = .ok (.iaload, 1) := by decide +kernel
theorem dX0_seen_19 : decode cX0_seen 19 = .ok (.istore_n 3, 1) := by decide +kernel
theorem dX0_seen_20 : decode cX0_seen 20 = .ok (.aload_n 0, 1) := by decide +kernel
theorem dX0_seen_21 : decode cX0_seen 21 = .ok (.getfield 13, 3) := by decide +kernel
theorem dX0_seen_24 : decode cX0_seen 24 = .ok (.iload_n 1, 1) := by decide +kernel
theorem dX0_seen_25 : decode cX0_seen 25 = .ok (.baload, 1) := by decide +kernel
theorem dX0_seen_26 : decode cX0_seen 26 = .ok (.istore 4, 2) := by decide +kernel
theorem dX0_seen_28 : decode cX0_seen 28 = .ok (.iconst 0, 1) := by decide +kernel
theorem dX0_seen_29 : decode cX0_seen 29 = .ok (.istore 5, 2) := by decide +kernel
theorem dX0_seen_31 : decode cX0_seen 31 = .ok (.iload 5, 2) := by decide +kernel
theorem dX0_seen_33 : decode cX0_seen 33 = .ok (.bipush 24, 2) := by decide +kernel
theorem dX0_seen_35 : decode cX0_seen 35 = .ok (.if_icmp .ge 41, 3) := by decide +kernel
theorem dX0_seen_38 : decode cX0_seen 38 = .ok (.iload 4, 2) := by decide +kernel
theorem dX0_seen_40 : decode cX0_seen 40 = .ok (.ifCond .lt 36, 3) := by decide +kernel
theorem dX0_seen_43 : decode cX0_seen 43 = .ok (.aload_n 0, 1) := by decide +kernel
theorem dX0_seen_44 : decode cX0_seen 44 = .ok (.iload 4, 2) := by decide +kernel
theorem dX0_seen_46 : decode cX0_seen 46 = .ok (.iload_n 2, 1) := by decide +kernel
theorem dX0_seen_47 : decode cX0_seen 47 = .ok (.invokevirtual 103, 3) := by decide +kernel
theorem dX0_seen_50 : decode cX0_seen 50 = .ok (.ifCond .eq 26, 3) := by decide +kernel
theorem dX0_seen_53 : decode cX0_seen 53 = .ok (.aload_n 0, 1) := by decide +kernel
theorem dX0_seen_54 : decode cX0_seen 54 = .ok (.getfield 23, 3) := by decide +kernel
theorem dX0_seen_57 : decode cX0_seen 57 = .ok (.iload 4, 2) := by decide +kernel
theorem dX0_seen_59 : decode cX0_seen 59 = .ok (.iaload, 1) := by decide +kernel
theorem dX0_seen_60 : decode cX0_seen 60 = .ok (.istore_n 3, 1) := by decide +kernel
theorem dX0_seen_61 : decode cX0_seen 61 = .ok (.aload_n 0, 1) := by decide +kernel
theorem dX0_seen_62 : decode cX0_seen 62 = .ok (.getfield 29, 3) := by decide +kernel
theorem dX0_seen_65 : decode cX0_seen 65 = .ok (.iload 4, 2) := by decide +kernel
theorem dX0_seen_67 : decode cX0_seen 67 = .ok (.baload, 1) := by decide +kernel
theorem dX0_seen_68 : decode cX0_seen 68 = .ok (.istore 4, 2) := by decide +kernel
theorem dX0_seen_70 : decode cX0_seen 70 = .ok (.iinc 5 1, 3) := by decide +kernel
theorem dX0_seen_73 : decode cX0_seen 73 = .ok (.goto (-42), 3) := by decide +kernel
theorem dX0_seen_76 : decode cX0_seen 76 = .ok (.iload_n 3, 1) := by decide +kernel
theorem dX0_seen_77 : decode cX0_seen 77 = .ok (.ireturn, 1) := by decide +kernel
abbrev cX0_isAfter : ByteArray := prog_1_method_17_code
def yX0_isAfter : MethodName := ⟨RX0, "isAfter", "(II)Z"⟩
theorem dX0_isAfter_0 : decode cX0_isAfter 0 = .ok (.aload_n 0, 1) := by decide +kernel
theorem dX0_isAfter_1 : decode cX0_isAfter 1 = .ok (.getfield 26, 3) := by decide +kernel
theorem dX0_isAfter_4 : decode cX0_isAfter 4 = .ok (.iload_n 1, 1) := by decide +kernel
theorem dX0_isAfter_5 : decode cX0_isAfter 5 = .ok (.baload, 1) := by decide +kernel
theorem dX0_isAfter_6 : decode cX0_isAfter 6 = .ok (.istore_n 3, 1) := by decide +kernel
theorem dX0_isAfter_7 : decode cX0_isAfter 7 = .ok (.aload_n 0, 1) := by decide +kernel
theorem dX0_isAfter_8 : decode cX0_isAfter 8 = .ok (.iload_n 3, 1) := by decide +kernel
theorem dX0_isAfter_9 : decode cX0_isAfter 9 = .ok (.invokevirtual 61, 3) := by decide +kernel
theorem dX0_isAfter_12 : decode cX0_isAfter 12 = .ok (.ifCond .ne 13, 3) := by decide +kernel
theorem dX0_isAfter_15 : decode cX0_isAfter 15 = .ok (.aload_n 0, 1) := by decide +kernel
theorem dX0_isAfter_16 : decode cX0_isAfter 16 = .ok (.getfield 41, 3) := by decide +kernel
theorem dX0_isAfter_19 : decode cX0_isAfter 19 = .ok (.iload_n 3, 1) := by decide +kernel
theorem dX0_isAfter_20 : decode cX0_isAfter 20 = .ok (.iaload, 1) := by decide +kernel
theorem dX0_isAfter_21 : decode cX0_isAfter 21 = .ok (.iload_n 2, 1) := by decide +kernel
theorem dX0_isAfter_22 : decode cX0_isAfter 22 = .ok (.if_icmp .le 7, 3) := by decide +kernel
theorem dX0_isAfter_25 : decode cX0_isAfter 25 = .ok (.iconst 1, 1) := by decide +kernel
theorem dX0_isAfter_26 : decode cX0_isAfter 26 = .ok (.goto 4, 3) := by decide +kernel
theorem dX0_isAfter_29 : decode cX0_isAfter 29 = .ok (.iconst 0, 1) := by decide +kernel
theorem dX0_isAfter_30 : decode cX0_isAfter 30 = .ok (.ireturn, 1) := by decide +kernel
abbrev cX0_raw : ByteArray := prog_1_method_18_code
def yX0_raw : MethodName := ⟨RX0, "raw", "(I)I"⟩
theorem dX0_raw_0 : decode cX0_raw 0 = .ok (.iload_n 1, 1) := by decide +kernel
theorem dX0_raw_1 : decode cX0_raw 1 = .ok (.invokestatic 68, 3) := by decide +kernel
theorem dX0_raw_4 : decode cX0_raw 4 = .ok (.ifCond .eq 12, 3) := by decide +kernel
theorem dX0_raw_7 : decode cX0_raw 7 = .ok (.aload_n 0, 1) := by decide +kernel
theorem dX0_raw_8 : decode cX0_raw 8 = .ok (.getfield 7, 3) := by decide +kernel
theorem dX0_raw_11 : decode cX0_raw 11 = .ok (.iload_n 1, 1) := by decide +kernel
theorem dX0_raw_12 : decode cX0_raw 12 = .ok (.iaload, 1) := by decide +kernel
theorem dX0_raw_13 : decode cX0_raw 13 = .ok (.goto 4, 3) := by decide +kernel
end
section
set_option maxRecDepth 100000
theorem dX0_raw_16 : decode cX0_raw 16 = .ok (.iconst 0, 1) := by decide +kernel
theorem dX0_raw_17 : decode cX0_raw 17 = .ok (.ireturn, 1) := by decide +kernel
abbrev cX0_holder : ByteArray := prog_1_method_19_code
def yX0_holder : MethodName := ⟨RX0, "holder", "(I)I"⟩
theorem dX0_holder_0 : decode cX0_holder 0 = .ok (.iload_n 1, 1) := by decide +kernel
theorem dX0_holder_1 : decode cX0_holder 1 = .ok (.invokestatic 68, 3) := by decide +kernel
theorem dX0_holder_4 : decode cX0_holder 4 = .ok (.ifCond .ne 6, 3) := by decide +kernel
theorem dX0_holder_7 : decode cX0_holder 7 = .ok (.bipush (-4), 2) := by decide +kernel
theorem dX0_holder_9 : decode cX0_holder 9 = .ok (.ireturn, 1) := by decide +kernel
theorem dX0_holder_10 : decode cX0_holder 10 = .ok (.aload_n 0, 1) := by decide +kernel
theorem dX0_holder_11 : decode cX0_holder 11 = .ok (.iload_n 1, 1) := by decide +kernel
theorem dX0_holder_12 : decode cX0_holder 12 = .ok (.invokevirtual 71, 3) := by decide +kernel
theorem dX0_holder_15 : decode cX0_holder 15 = .ok (.istore_n 2, 1) := by decide +kernel
theorem dX0_holder_16 : decode cX0_holder 16 = .ok (.iconst 0, 1) := by decide +kernel
theorem dX0_holder_17 : decode cX0_holder 17 = .ok (.istore_n 3, 1) := by decide +kernel
theorem dX0_holder_18 : decode cX0_holder 18 = .ok (.iload_n 3, 1) := by decide +kernel
theorem dX0_holder_19 : decode cX0_holder 19 = .ok (.iconst 4, 1) := by decide +kernel
theorem dX0_holder_20 : decode cX0_holder 20 = .ok (.if_icmp .ge 25, 3) := by decide +kernel
theorem dX0_holder_23 : decode cX0_holder 23 = .ok (.iload_n 2, 1) := by decide +kernel
theorem dX0_holder_24 : decode cX0_holder 24 = .ok (.ifCond .lt 15, 3) := by decide +kernel
theorem dX0_holder_27 : decode cX0_holder 27 = .ok (.aload_n 0, 1) := by decide +kernel
theorem dX0_holder_28 : decode cX0_holder 28 = .ok (.getfield 44, 3) := by decide +kernel
theorem dX0_holder_31 : decode cX0_holder 31 = .ok (.iload_n 3, 1) := by decide +kernel
theorem dX0_holder_32 : decode cX0_holder 32 = .ok (.baload, 1) := by decide +kernel
theorem dX0_holder_33 : decode cX0_holder 33 = .ok (.iload_n 2, 1) := by decide +kernel
theorem dX0_holder_34 : decode cX0_holder 34 = .ok (.if_icmp .ne 5, 3) := by decide +kernel
theorem dX0_holder_37 : decode cX0_holder 37 = .ok (.iload_n 3, 1) := by decide +kernel
theorem dX0_holder_38 : decode cX0_holder 38 = .ok (.ireturn, 1) := by decide +kernel
theorem dX0_holder_39 : decode cX0_holder 39 = .ok (.iinc 3 1, 3) := by decide +kernel
theorem dX0_holder_42 : decode cX0_holder 42 = .ok (.goto (-24), 3) := by decide +kernel
theorem dX0_holder_45 : decode cX0_holder 45 = .ok (.bipush (-4), 2) := by decide +kernel
theorem dX0_holder_47 : decode cX0_holder 47 = .ok (.ireturn, 1) := by decide +kernel
abbrev cX0_locks : ByteArray := prog_1_method_20_code
def yX0_locks : MethodName := ⟨RX0, "locks", "(I)I"⟩
theorem dX0_locks_0 : decode cX0_locks 0 = .ok (.iconst 0, 1) := by decide +kernel
theorem dX0_locks_1 : decode cX0_locks 1 = .ok (.istore_n 2, 1) := by decide +kernel
theorem dX0_locks_2 : decode cX0_locks 2 = .ok (.iconst 0, 1) := by decide +kernel
theorem dX0_locks_3 : decode cX0_locks 3 = .ok (.istore_n 3, 1) := by decide +kernel
theorem dX0_locks_4 : decode cX0_locks 4 = .ok (.iload_n 3, 1) := by decide +kernel
theorem dX0_locks_5 : decode cX0_locks 5 = .ok (.bipush 8, 2) := by decide +kernel
theorem dX0_locks_7 : decode cX0_locks 7 = .ok (.if_icmp .ge 45, 3) := by decide +kernel
theorem dX0_locks_10 : decode cX0_locks 10 = .ok (.aload_n 0, 1) := by decide +kernel
theorem dX0_locks_11 : decode cX0_locks 11 = .ok (.iload_n 3, 1) := by decide +kernel
theorem dX0_locks_12 : decode cX0_locks 12 = .ok (.invokevirtual 71, 3) := by decide +kernel
theorem dX0_locks_15 : decode cX0_locks 15 = .ok (.istore 4, 2) := by decide +kernel
theorem dX0_locks_17 : decode cX0_locks 17 = .ok (.iload_n 1, 1) := by decide +kernel
theorem dX0_locks_18 : decode cX0_locks 18 = .ok (.invokestatic 65, 3) := by decide +kernel
theorem dX0_locks_21 : decode cX0_locks 21 = .ok (.ifCond .eq 25, 3) := by decide +kernel
theorem dX0_locks_24 : decode cX0_locks 24 = .ok (.iload 4, 2) := by decide +kernel
theorem dX0_locks_26 : decode cX0_locks 26 = .ok (.ifCond .lt 20, 3) := by decide +kernel
theorem dX0_locks_29 : decode cX0_locks 29 = .ok (.iload 4, 2) := by decide +kernel
theorem dX0_locks_31 : decode cX0_locks 31 = .ok (.aload_n 0, 1) := by decide +kernel
theorem dX0_locks_32 : decode cX0_locks 32 = .ok (.getfield 44, 3) := by decide +kernel
theorem dX0_locks_35 : decode cX0_locks 35 = .ok (.iload_n 1, 1) := by decide +kernel
theorem dX0_locks_36 : decode cX0_locks 36 = .ok (.baload, 1) := by decide +kernel
theorem dX0_locks_37 : decode cX0_locks 37 = .ok (.if_icmp .ne 9, 3) := by decide +kernel
theorem dX0_locks_40 : decode cX0_locks 40 = .ok (.iload_n 2, 1) := by decide +kernel
theorem dX0_locks_41 : decode cX0_locks 41 = .ok (.iconst 1, 1) := by decide +kernel
theorem dX0_locks_42 : decode cX0_locks 42 = .ok (.iload_n 3, 1) := by decide +kernel
theorem dX0_locks_43 : decode cX0_locks 43 = .ok (.ishl, 1) := by decide +kernel
theorem dX0_locks_44 : decode cX0_locks 44 = .ok (.ior, 1) := by decide +kernel
theorem dX0_locks_45 : decode cX0_locks 45 = .ok (.istore_n 2, 1) := by decide +kernel
theorem dX0_locks_46 : decode cX0_locks 46 = .ok (.iinc 3 1, 3) := by decide +kernel
theorem dX0_locks_49 : decode cX0_locks 49 = .ok (.goto (-45), 3) := by decide +kernel
theorem dX0_locks_52 : decode cX0_locks 52 = .ok (.iload_n 2, 1) := by decide +kernel
theorem dX0_locks_53 : decode cX0_locks 53 = .ok (.ireturn, 1) := by decide +kernel
abbrev cX0_remembered : ByteArray := prog_1_method_21_code
def yX0_remembered : MethodName := ⟨RX0, "remembered", "()I"⟩
theorem dX0_remembered_0 : decode cX0_remembered 0 = .ok (.aload_n 0, 1) := by decide +kernel
theorem dX0_remembered_1 : decode cX0_remembered 1 = .ok (.getfield 75, 3) := by decide +kernel
theorem dX0_remembered_4 : decode cX0_remembered 4 = .ok (.ireturn, 1) := by decide +kernel
abbrev cX0_changes : ByteArray := prog_1_method_22_code
def yX0_changes : MethodName := ⟨RX0, "changes", "(I)I"⟩
theorem dX0_changes_0 : decode cX0_changes 0 = .ok (.iload_n 1, 1) := by decide +kernel
theorem dX0_changes_1 : decode cX0_changes 1 = .ok (.invokestatic 65, 3) := by decide +kernel
theorem dX0_changes_4 : decode cX0_changes 4 = .ok (.ifCond .eq 26, 3) := by decide +kernel
theorem dX0_changes_7 : decode cX0_changes 7 = .ok (.aload_n 0, 1) := by decide +kernel
theorem dX0_changes_8 : decode cX0_changes 8 = .ok (.getfield 44, 3) := by decide +kernel
theorem dX0_changes_11 : decode cX0_changes 11 = .ok (.iload_n 1, 1) := by decide +kernel
theorem dX0_changes_12 : decode cX0_changes 12 = .ok (.baload, 1) := by decide +kernel
theorem dX0_changes_13 : decode cX0_changes 13 = .ok (.ifCond .lt 17, 3) := by decide +kernel
theorem dX0_changes_16 : decode cX0_changes 16 = .ok (.aload_n 0, 1) := by decide +kernel
theorem dX0_changes_17 : decode cX0_changes 17 = .ok (.getfield 38, 3) := by decide +kernel
theorem dX0_changes_20 : decode cX0_changes 20 = .ok (.aload_n 0, 1) := by decide +kernel
theorem dX0_changes_21 : decode cX0_changes 21 = .ok (.getfield 44, 3) := by decide +kernel
theorem dX0_changes_24 : decode cX0_changes 24 = .ok (.iload_n 1, 1) := by decide +kernel
theorem dX0_changes_25 : decode cX0_changes 25 = .ok (.baload, 1) := by decide +kernel
theorem dX0_changes_26 : decode cX0_changes 26 = .ok (.baload, 1) := by decide +kernel
theorem dX0_changes_27 : decode cX0_changes 27 = .ok (.goto 4, 3) := by decide +kernel
theorem dX0_changes_30 : decode cX0_changes 30 = .ok (.iconst 0, 1) := by decide +kernel
theorem dX0_changes_31 : decode cX0_changes 31 = .ok (.ireturn, 1) := by decide +kernel
abbrev cX0_oldest : ByteArray := prog_1_method_23_code
def yX0_oldest : MethodName := ⟨RX0, "oldest", "(I)I"⟩
theorem dX0_oldest_0 : decode cX0_oldest 0 = .ok (.iload_n 1, 1) := by decide +kernel
theorem dX0_oldest_1 : decode cX0_oldest 1 = .ok (.invokestatic 68, 3) := by decide +kernel
theorem dX0_oldest_4 : decode cX0_oldest 4 = .ok (.ifCond .eq 12, 3) := by decide +kernel
theorem dX0_oldest_7 : decode cX0_oldest 7 = .ok (.aload_n 0, 1) := by decide +kernel
theorem dX0_oldest_8 : decode cX0_oldest 8 = .ok (.getfield 17, 3) := by decide +kernel
theorem dX0_oldest_11 : decode cX0_oldest 11 = .ok (.iload_n 1, 1) := by decide +kernel
theorem dX0_oldest_12 : decode cX0_oldest 12 = .ok (.iaload, 1) := by decide +kernel
theorem dX0_oldest_13 : decode cX0_oldest 13 = .ok (.goto 4, 3) := by decide +kernel
theorem dX0_oldest_16 : decode cX0_oldest 16 = .ok (.iconst (-1), 1) := by decide +kernel
theorem dX0_oldest_17 : decode cX0_oldest 17 = .ok (.ireturn, 1) := by decide +kernel
abbrev cX0_changedSince : ByteArray := prog_1_method_24_code
def yX0_changedSince : MethodName := ⟨RX0, "changedSince", "(I)I"⟩
theorem dX0_changedSince_0 : decode cX0_changedSince 0 = .ok (.iload_n 1, 1) := by decide +kernel
theorem dX0_changedSince_1 : decode cX0_changedSince 1 = .ok (.ifCond .lt 11, 3) := by decide +kernel
theorem dX0_changedSince_4 : decode cX0_changedSince 4 = .ok (.iload_n 1, 1) := by decide +kernel
theorem dX0_changedSince_5 : decode cX0_changedSince 5 = .ok (.aload_n 0, 1) := by decide +kernel
theorem dX0_changedSince_6 : decode cX0_changedSince 6 = .ok (.getfield 89, 3) := by decide +kernel
theorem dX0_changedSince_9 : decode cX0_changedSince 9 = .ok (.if_icmp .le 5, 3) := by decide +kernel
theorem dX0_changedSince_12 : decode cX0_changedSince 12 = .ok (.iconst 0, 1) := by decide +kernel
theorem dX0_changedSince_13 : decode cX0_changedSince 13 = .ok (.ireturn, 1) := by decide +kernel
theorem dX0_changedSince_14 : decode cX0_changedSince 14 = .ok (.iconst 0, 1) := by decide +kernel
theorem dX0_changedSince_15 : decode cX0_changedSince 15 = .ok (.istore_n 2, 1) := by decide +kernel
theorem dX0_changedSince_16 : decode cX0_changedSince 16 = .ok (.iconst 0, 1) := by decide +kernel
theorem dX0_changedSince_17 : decode cX0_changedSince 17 = .ok (.istore_n 3, 1) := by decide +kernel
theorem dX0_changedSince_18 : decode cX0_changedSince 18 = .ok (.iload_n 3, 1) := by decide +kernel
theorem dX0_changedSince_19 : decode cX0_changedSince 19 = .ok (.bipush 8, 2) := by decide +kernel
theorem dX0_changedSince_21 : decode cX0_changedSince 21 = .ok (.if_icmp .ge 67, 3) := by decide +kernel
theorem dX0_changedSince_24 : decode cX0_changedSince 24 = .ok (.aload_n 0, 1) := by decide +kernel
theorem dX0_changedSince_25 : decode cX0_changedSince 25 = .ok (.iload_n 3, 1) := by decide +kernel
theorem dX0_changedSince_26 : decode cX0_changedSince 26 = .ok (.iload_n 1, 1) := by decide +kernel
theorem dX0_changedSince_27 : decode cX0_changedSince 27 = .ok (.invokevirtual 98, 3) := by decide +kernel
theorem dX0_changedSince_30 : decode cX0_changedSince 30 = .ok (.istore 4, 2) := by decide +kernel
theorem dX0_changedSince_32 : decode cX0_changedSince 32 = .ok (.aload_n 0, 1) := by decide +kernel
theorem dX0_changedSince_33 : decode cX0_changedSince 33 = .ok (.iload_n 3, 1) := by decide +kernel
theorem dX0_changedSince_34 : decode cX0_changedSince 34 = .ok (.aload_n 0, 1) := by decide +kernel
theorem dX0_changedSince_35 : decode cX0_changedSince 35 = .ok (.getfield 89, 3) := by decide +kernel
theorem dX0_changedSince_38 : decode cX0_changedSince 38 = .ok (.invokevirtual 98, 3) := by decide +kernel
theorem dX0_changedSince_41 : decode cX0_changedSince 41 = .ok (.istore 5, 2) := by decide +kernel
theorem dX0_changedSince_43 : decode cX0_changedSince 43 = .ok (.aload_n 0, 1) := by decide +kernel
theorem dX0_changedSince_44 : decode cX0_changedSince 44 = .ok (.getfield 17, 3) := by decide +kernel
theorem dX0_changedSince_47 : decode cX0_changedSince 47 = .ok (.iload_n 3, 1) := by decide +kernel
theorem dX0_changedSince_48 : decode cX0_changedSince 48 = .ok (.iaload, 1) := by decide +kernel
theorem dX0_changedSince_49 : decode cX0_changedSince 49 = .ok (.iload_n 1, 1) := by decide +kernel
theorem dX0_changedSince_50 : decode cX0_changedSince 50 = .ok (.if_icmp .gt 7, 3) := by decide +kernel
theorem dX0_changedSince_53 : decode cX0_changedSince 53 = .ok (.iconst 1, 1) := by decide +kernel
theorem dX0_changedSince_54 : decode cX0_changedSince 54 = .ok (.goto 4, 3) := by decide +kernel
theorem dX0_changedSince_57 : decode cX0_changedSince 57 = .ok (.iconst 0, 1) := by decide +kernel
theorem dX0_changedSince_58 : decode cX0_changedSince 58 = .ok (.istore 6, 2) := by decide +kernel
theorem dX0_changedSince_60 : decode cX0_changedSince 60 = .ok (.iload_n 2, 1) := by decide +kernel
theorem dX0_changedSince_61 : decode cX0_changedSince 61 = .ok (.iload 6, 2) := by decide +kernel
theorem dX0_changedSince_63 : decode cX0_changedSince 63 = .ok (.ifCond .eq 16, 3) := by decide +kernel
theorem dX0_changedSince_66 : decode cX0_changedSince 66 = .ok (.iload 4, 2) := by decide +kernel
theorem dX0_changedSince_68 : decode cX0_changedSince 68 = .ok (.iload 5, 2) := by decide +kernel
theorem dX0_changedSince_70 : decode cX0_changedSince 70 = .ok (.if_icmp .eq 9, 3) := by decide +kernel
theorem dX0_changedSince_73 : decode cX0_changedSince 73 = .ok (.iconst 1, 1) := by decide +kernel
theorem dX0_changedSince_74 : decode cX0_changedSince 74 = .ok (.iload_n 3, 1) := by decide +kernel
theorem dX0_changedSince_75 : decode cX0_changedSince 75 = .ok (.ishl, 1) := by decide +kernel
theorem dX0_changedSince_76 : decode cX0_changedSince 76 = .ok (.goto 4, 3) := by decide +kernel
theorem dX0_changedSince_79 : decode cX0_changedSince 79 = .ok (.iconst 0, 1) := by decide +kernel
theorem dX0_changedSince_80 : decode cX0_changedSince 80 = .ok (.ior, 1) := by decide +kernel
theorem dX0_changedSince_81 : decode cX0_changedSince 81 = .ok (.istore_n 2, 1) := by decide +kernel
theorem dX0_changedSince_82 : decode cX0_changedSince 82 = .ok (.iinc 3 1, 3) := by decide +kernel
theorem dX0_changedSince_85 : decode cX0_changedSince 85 = .ok (.goto (-67), 3) := by decide +kernel
theorem dX0_changedSince_88 : decode cX0_changedSince 88 = .ok (.iload_n 2, 1) := by decide +kernel
theorem dX0_changedSince_89 : decode cX0_changedSince 89 = .ok (.ireturn, 1) := by decide +kernel
theorem q15 : (Jvm.Cond.initialized "UndoReader") ∈ lw_all := lw_g (lw_at lw_m1 1 rfl) rfl
theorem q18 : (Jvm.Cond.instantiable "UndoReader" (18 : Nat)) ∈ lw_all := lw_g (lw_at lw_m1 4 rfl) rfl
theorem q20 : (Jvm.Cond.instanceMethod ({ cls := "UndoReader", name := "<init>", desc := "()V" } : Jvm.MethodName)) ∈ lw_all := lw_g (lw_at lw_m1 6 rfl) rfl
theorem q21 : (Jvm.Cond.code ({ cls := "UndoReader", name := "<init>", desc := "()V" } : Jvm.MethodName) prog_1_method_1_code (2 : Nat) (Option.none : Option Jvm.ClassFile.FieldType)) ∈ lw_all := lw_g (lw_at lw_m1 7 rfl) rfl
theorem q22 : (Jvm.Cond.methodLink "UndoReader" (1 : Nat) ({ cls := "java/lang/Object", name := "<init>", desc := "()V" } : Jvm.MethodName)) ∈ lw_all := lw_g (lw_at lw_m1 8 rfl) rfl
theorem q25 : (Jvm.Cond.fieldLink "UndoReader" (7 : Nat) "UndoReader" "values" "[I") ∈ lw_all := lw_g (lw_at lw_m1 11 rfl) rfl
theorem q26 : (Jvm.Cond.fieldLink "UndoReader" (13 : Nat) "UndoReader" "newest" "[B") ∈ lw_all := lw_g (lw_at lw_m1 12 rfl) rfl
theorem q27 : (Jvm.Cond.fieldLink "UndoReader" (17 : Nat) "UndoReader" "forgotten" "[I") ∈ lw_all := lw_g (lw_at lw_m1 13 rfl) rfl
theorem q28 : (Jvm.Cond.fieldLink "UndoReader" (20 : Nat) "UndoReader" "rowOf" "[B") ∈ lw_all := lw_g (lw_at lw_m1 14 rfl) rfl
theorem q29 : (Jvm.Cond.fieldLink "UndoReader" (23 : Nat) "UndoReader" "oldValue" "[I") ∈ lw_all := lw_g (lw_at lw_m1 15 rfl) rfl
theorem q30 : (Jvm.Cond.fieldLink "UndoReader" (26 : Nat) "UndoReader" "placeOf" "[B") ∈ lw_all := lw_g (lw_at lw_m1 16 rfl) rfl
theorem q31 : (Jvm.Cond.fieldLink "UndoReader" (29 : Nat) "UndoReader" "olderOfRow" "[B") ∈ lw_all := lw_g (lw_at lw_m1 17 rfl) rfl
theorem q32 : (Jvm.Cond.fieldLink "UndoReader" (32 : Nat) "UndoReader" "olderOfAll" "[B") ∈ lw_all := lw_g (lw_at lw_m1 18 rfl) rfl
theorem q33 : (Jvm.Cond.fieldLink "UndoReader" (35 : Nat) "UndoReader" "newerOfAll" "[B") ∈ lw_all := lw_g (lw_at lw_m1 19 rfl) rfl
theorem q34 : (Jvm.Cond.fieldLink "UndoReader" (95 : Nat) "UndoReader" "used" "I") ∈ lw_all := lw_g (lw_at lw_m1 20 rfl) rfl
theorem q35 : (Jvm.Cond.fieldLink "UndoReader" (47 : Nat) "UndoReader" "first" "I") ∈ lw_all := lw_g (lw_at lw_m1 21 rfl) rfl
theorem q36 : (Jvm.Cond.fieldLink "UndoReader" (51 : Nat) "UndoReader" "last" "I") ∈ lw_all := lw_g (lw_at lw_m1 22 rfl) rfl
theorem q37 : (Jvm.Cond.fieldLink "UndoReader" (75 : Nat) "UndoReader" "count" "I") ∈ lw_all := lw_g (lw_at lw_m1 23 rfl) rfl
theorem q38 : (Jvm.Cond.fieldLink "UndoReader" (54 : Nat) "UndoReader" "taken" "I") ∈ lw_all := lw_g (lw_at lw_m1 24 rfl) rfl
theorem q39 : (Jvm.Cond.fieldLink "UndoReader" (38 : Nat) "UndoReader" "changesOf" "[B") ∈ lw_all := lw_g (lw_at lw_m1 25 rfl) rfl
theorem q40 : (Jvm.Cond.fieldLink "UndoReader" (41 : Nat) "UndoReader" "numberOf" "[I") ∈ lw_all := lw_g (lw_at lw_m1 26 rfl) rfl
theorem q41 : (Jvm.Cond.fieldLink "UndoReader" (44 : Nat) "UndoReader" "openPlace" "[B") ∈ lw_all := lw_g (lw_at lw_m1 27 rfl) rfl
theorem q42 : (Jvm.Cond.fieldLink "UndoReader" (89 : Nat) "UndoReader" "now" "I") ∈ lw_all := lw_g (lw_at lw_m1 28 rfl) rfl
theorem q43 : (Jvm.Cond.laysFinal "UndoReader" "UndoReader" "values" "[I") ∈ lw_all := lw_g (lw_at lw_m1 29 rfl) rfl
theorem q44 : (Jvm.Cond.soleField "UndoReader" "values") ∈ lw_all := lw_g (lw_at lw_m1 30 rfl) rfl
theorem q45 : (Jvm.Cond.laysFinal "UndoReader" "UndoReader" "newest" "[B") ∈ lw_all := lw_g (lw_at lw_m1 31 rfl) rfl
theorem q46 : (Jvm.Cond.soleField "UndoReader" "newest") ∈ lw_all := lw_g (lw_at lw_m1 32 rfl) rfl
theorem q47 : (Jvm.Cond.laysFinal "UndoReader" "UndoReader" "forgotten" "[I") ∈ lw_all := lw_g (lw_at lw_m1 33 rfl) rfl
theorem q48 : (Jvm.Cond.soleField "UndoReader" "forgotten") ∈ lw_all := lw_g (lw_at lw_m1 34 rfl) rfl
theorem q49 : (Jvm.Cond.laysFinal "UndoReader" "UndoReader" "rowOf" "[B") ∈ lw_all := lw_g (lw_at lw_m1 35 rfl) rfl
theorem q50 : (Jvm.Cond.soleField "UndoReader" "rowOf") ∈ lw_all := lw_g (lw_at lw_m1 36 rfl) rfl
theorem q51 : (Jvm.Cond.laysFinal "UndoReader" "UndoReader" "oldValue" "[I") ∈ lw_all := lw_g (lw_at lw_m1 37 rfl) rfl
theorem q52 : (Jvm.Cond.soleField "UndoReader" "oldValue") ∈ lw_all := lw_g (lw_at lw_m1 38 rfl) rfl
theorem q53 : (Jvm.Cond.laysFinal "UndoReader" "UndoReader" "placeOf" "[B") ∈ lw_all := lw_g (lw_at lw_m1 39 rfl) rfl
theorem q54 : (Jvm.Cond.soleField "UndoReader" "placeOf") ∈ lw_all := lw_g (lw_at lw_m1 40 rfl) rfl
theorem q55 : (Jvm.Cond.laysFinal "UndoReader" "UndoReader" "olderOfRow" "[B") ∈ lw_all := lw_g (lw_at lw_m1 41 rfl) rfl
theorem q56 : (Jvm.Cond.soleField "UndoReader" "olderOfRow") ∈ lw_all := lw_g (lw_at lw_m1 42 rfl) rfl
theorem q57 : (Jvm.Cond.laysFinal "UndoReader" "UndoReader" "olderOfAll" "[B") ∈ lw_all := lw_g (lw_at lw_m1 43 rfl) rfl
theorem q58 : (Jvm.Cond.soleField "UndoReader" "olderOfAll") ∈ lw_all := lw_g (lw_at lw_m1 44 rfl) rfl
theorem q59 : (Jvm.Cond.laysFinal "UndoReader" "UndoReader" "newerOfAll" "[B") ∈ lw_all := lw_g (lw_at lw_m1 45 rfl) rfl
theorem q60 : (Jvm.Cond.soleField "UndoReader" "newerOfAll") ∈ lw_all := lw_g (lw_at lw_m1 46 rfl) rfl
theorem q61 : (Jvm.Cond.lays "UndoReader" "UndoReader" "used" "I") ∈ lw_all := lw_g (lw_at lw_m1 47 rfl) rfl
theorem q62 : (Jvm.Cond.soleField "UndoReader" "used") ∈ lw_all := lw_g (lw_at lw_m1 48 rfl) rfl
theorem q63 : (Jvm.Cond.lays "UndoReader" "UndoReader" "first" "I") ∈ lw_all := lw_g (lw_at lw_m1 49 rfl) rfl
theorem q64 : (Jvm.Cond.soleField "UndoReader" "first") ∈ lw_all := lw_g (lw_at lw_m1 50 rfl) rfl
theorem q65 : (Jvm.Cond.lays "UndoReader" "UndoReader" "last" "I") ∈ lw_all := lw_g (lw_at lw_m1 51 rfl) rfl
theorem q66 : (Jvm.Cond.soleField "UndoReader" "last") ∈ lw_all := lw_g (lw_at lw_m1 52 rfl) rfl
theorem q67 : (Jvm.Cond.lays "UndoReader" "UndoReader" "count" "I") ∈ lw_all := lw_g (lw_at lw_m1 53 rfl) rfl
theorem q68 : (Jvm.Cond.soleField "UndoReader" "count") ∈ lw_all := lw_g (lw_at lw_m1 54 rfl) rfl
theorem q69 : (Jvm.Cond.lays "UndoReader" "UndoReader" "taken" "I") ∈ lw_all := lw_g (lw_at lw_m1 55 rfl) rfl
theorem q70 : (Jvm.Cond.soleField "UndoReader" "taken") ∈ lw_all := lw_g (lw_at lw_m1 56 rfl) rfl
theorem q71 : (Jvm.Cond.laysFinal "UndoReader" "UndoReader" "changesOf" "[B") ∈ lw_all := lw_g (lw_at lw_m1 57 rfl) rfl
theorem q72 : (Jvm.Cond.soleField "UndoReader" "changesOf") ∈ lw_all := lw_g (lw_at lw_m1 58 rfl) rfl
theorem q73 : (Jvm.Cond.laysFinal "UndoReader" "UndoReader" "numberOf" "[I") ∈ lw_all := lw_g (lw_at lw_m1 59 rfl) rfl
theorem q74 : (Jvm.Cond.soleField "UndoReader" "numberOf") ∈ lw_all := lw_g (lw_at lw_m1 60 rfl) rfl
theorem q75 : (Jvm.Cond.laysFinal "UndoReader" "UndoReader" "openPlace" "[B") ∈ lw_all := lw_g (lw_at lw_m1 61 rfl) rfl
theorem q76 : (Jvm.Cond.soleField "UndoReader" "openPlace") ∈ lw_all := lw_g (lw_at lw_m1 62 rfl) rfl
theorem q77 : (Jvm.Cond.lays "UndoReader" "UndoReader" "now" "I") ∈ lw_all := lw_g (lw_at lw_m1 63 rfl) rfl
theorem q78 : (Jvm.Cond.soleField "UndoReader" "now") ∈ lw_all := lw_g (lw_at lw_m1 64 rfl) rfl
theorem q79 : (Jvm.Cond.superclass "UndoReader" "java/lang/Object") ∈ lw_all := lw_g (lw_at lw_m1 65 rfl) rfl
theorem q83 : (Jvm.Cond.instanceMethod ({ cls := "UndoReader", name := "change", desc := "(III)I" } : Jvm.MethodName)) ∈ lw_all := lw_g (lw_at lw_m1 69 rfl) rfl
theorem q84 : (Jvm.Cond.selects "UndoReader" ({ cls := "UndoReader", name := "change", desc := "(III)I" } : Jvm.MethodName) ({ cls := "UndoReader", name := "change", desc := "(III)I" } : Jvm.MethodName)) ∈ lw_all := lw_g (lw_at lw_m1 70 rfl) rfl
theorem q85 : (Jvm.Cond.code ({ cls := "UndoReader", name := "change", desc := "(III)I" } : Jvm.MethodName) prog_1_method_8_code (5 : Nat) (Option.some Jvm.ClassFile.FieldType.int)) ∈ lw_all := lw_g (lw_at lw_m1 71 rfl) rfl
theorem q86 : (Jvm.Cond.methodLink "UndoReader" (65 : Nat) ({ cls := "UndoReader", name := "isSession", desc := "(I)Z" } : Jvm.MethodName)) ∈ lw_all := lw_g (lw_at lw_m1 72 rfl) rfl
theorem q87 : (Jvm.Cond.static ({ cls := "UndoReader", name := "isSession", desc := "(I)Z" } : Jvm.MethodName)) ∈ lw_all := lw_g (lw_at lw_m1 73 rfl) rfl
theorem q88 : (Jvm.Cond.code ({ cls := "UndoReader", name := "isSession", desc := "(I)Z" } : Jvm.MethodName) prog_1_method_2_code (1 : Nat) (Option.some Jvm.ClassFile.FieldType.boolean)) ∈ lw_all := lw_g (lw_at lw_m1 74 rfl) rfl
theorem q89 : (Jvm.Cond.methodLink "UndoReader" (68 : Nat) ({ cls := "UndoReader", name := "isRow", desc := "(I)Z" } : Jvm.MethodName)) ∈ lw_all := lw_g (lw_at lw_m1 75 rfl) rfl
theorem q90 : (Jvm.Cond.static ({ cls := "UndoReader", name := "isRow", desc := "(I)Z" } : Jvm.MethodName)) ∈ lw_all := lw_g (lw_at lw_m1 76 rfl) rfl
theorem q91 : (Jvm.Cond.code ({ cls := "UndoReader", name := "isRow", desc := "(I)Z" } : Jvm.MethodName) prog_1_method_3_code (1 : Nat) (Option.some Jvm.ClassFile.FieldType.boolean)) ∈ lw_all := lw_g (lw_at lw_m1 77 rfl) rfl
theorem q92 : (Jvm.Cond.methodLink "UndoReader" (71 : Nat) ({ cls := "UndoReader", name := "lockOf", desc := "(I)I" } : Jvm.MethodName)) ∈ lw_all := lw_g (lw_at lw_m1 78 rfl) rfl
theorem q93 : (Jvm.Cond.privateMethod ({ cls := "UndoReader", name := "lockOf", desc := "(I)I" } : Jvm.MethodName)) ∈ lw_tbl := lw_at lw_m1 79 rfl
theorem q94 : (Jvm.Cond.instanceMethod ({ cls := "UndoReader", name := "lockOf", desc := "(I)I" } : Jvm.MethodName)) ∈ lw_all := lw_g (lw_at lw_m1 80 rfl) rfl
theorem q95 : (Jvm.Cond.code ({ cls := "UndoReader", name := "lockOf", desc := "(I)I" } : Jvm.MethodName) prog_1_method_7_code (3 : Nat) (Option.some Jvm.ClassFile.FieldType.int)) ∈ lw_all := lw_g (lw_at lw_m1 81 rfl) rfl
theorem q96 : (Jvm.Cond.methodLink "UndoReader" (61 : Nat) ({ cls := "UndoReader", name := "isOpen", desc := "(I)Z" } : Jvm.MethodName)) ∈ lw_all := lw_g (lw_at lw_m1 82 rfl) rfl
theorem q97 : (Jvm.Cond.privateMethod ({ cls := "UndoReader", name := "isOpen", desc := "(I)Z" } : Jvm.MethodName)) ∈ lw_tbl := lw_at lw_m1 83 rfl
theorem q98 : (Jvm.Cond.instanceMethod ({ cls := "UndoReader", name := "isOpen", desc := "(I)Z" } : Jvm.MethodName)) ∈ lw_all := lw_g (lw_at lw_m1 84 rfl) rfl
theorem q99 : (Jvm.Cond.code ({ cls := "UndoReader", name := "isOpen", desc := "(I)Z" } : Jvm.MethodName) prog_1_method_5_code (2 : Nat) (Option.some Jvm.ClassFile.FieldType.boolean)) ∈ lw_all := lw_g (lw_at lw_m1 85 rfl) rfl
theorem q100 : (Jvm.Cond.methodLink "UndoReader" (78 : Nat) ({ cls := "UndoReader", name := "forgetFirst", desc := "()V" } : Jvm.MethodName)) ∈ lw_all := lw_g (lw_at lw_m1 86 rfl) rfl
theorem q101 : (Jvm.Cond.privateMethod ({ cls := "UndoReader", name := "forgetFirst", desc := "()V" } : Jvm.MethodName)) ∈ lw_tbl := lw_at lw_m1 87 rfl
theorem q102 : (Jvm.Cond.instanceMethod ({ cls := "UndoReader", name := "forgetFirst", desc := "()V" } : Jvm.MethodName)) ∈ lw_all := lw_g (lw_at lw_m1 88 rfl) rfl
theorem q103 : (Jvm.Cond.code ({ cls := "UndoReader", name := "forgetFirst", desc := "()V" } : Jvm.MethodName) prog_1_method_13_code (5 : Nat) (Option.none : Option Jvm.ClassFile.FieldType)) ∈ lw_all := lw_g (lw_at lw_m1 89 rfl) rfl
theorem q104 : (Jvm.Cond.methodLink "UndoReader" (92 : Nat) ({ cls := "UndoReader", name := "unlink", desc := "(I)V" } : Jvm.MethodName)) ∈ lw_all := lw_g (lw_at lw_m1 90 rfl) rfl
theorem q105 : (Jvm.Cond.privateMethod ({ cls := "UndoReader", name := "unlink", desc := "(I)V" } : Jvm.MethodName)) ∈ lw_tbl := lw_at lw_m1 91 rfl
theorem q106 : (Jvm.Cond.instanceMethod ({ cls := "UndoReader", name := "unlink", desc := "(I)V" } : Jvm.MethodName)) ∈ lw_all := lw_g (lw_at lw_m1 92 rfl) rfl
theorem q107 : (Jvm.Cond.code ({ cls := "UndoReader", name := "unlink", desc := "(I)V" } : Jvm.MethodName) prog_1_method_12_code (5 : Nat) (Option.none : Option Jvm.ClassFile.FieldType)) ∈ lw_all := lw_g (lw_at lw_m1 93 rfl) rfl
theorem q108 : (Jvm.Cond.methodLink "UndoReader" (81 : Nat) ({ cls := "UndoReader", name := "open", desc := "(I)V" } : Jvm.MethodName)) ∈ lw_all := lw_g (lw_at lw_m1 94 rfl) rfl
theorem q109 : (Jvm.Cond.privateMethod ({ cls := "UndoReader", name := "open", desc := "(I)V" } : Jvm.MethodName)) ∈ lw_tbl := lw_at lw_m1 95 rfl
theorem q110 : (Jvm.Cond.instanceMethod ({ cls := "UndoReader", name := "open", desc := "(I)V" } : Jvm.MethodName)) ∈ lw_all := lw_g (lw_at lw_m1 96 rfl) rfl
theorem q111 : (Jvm.Cond.code ({ cls := "UndoReader", name := "open", desc := "(I)V" } : Jvm.MethodName) prog_1_method_6_code (3 : Nat) (Option.none : Option Jvm.ClassFile.FieldType)) ∈ lw_all := lw_g (lw_at lw_m1 97 rfl) rfl
theorem q112 : (Jvm.Cond.methodLink "UndoReader" (57 : Nat) ({ cls := "UndoReader", name := "freePlace", desc := "()I" } : Jvm.MethodName)) ∈ lw_all := lw_g (lw_at lw_m1 98 rfl) rfl
theorem q113 : (Jvm.Cond.privateMethod ({ cls := "UndoReader", name := "freePlace", desc := "()I" } : Jvm.MethodName)) ∈ lw_tbl := lw_at lw_m1 99 rfl
theorem q114 : (Jvm.Cond.instanceMethod ({ cls := "UndoReader", name := "freePlace", desc := "()I" } : Jvm.MethodName)) ∈ lw_all := lw_g (lw_at lw_m1 100 rfl) rfl
theorem q115 : (Jvm.Cond.code ({ cls := "UndoReader", name := "freePlace", desc := "()I" } : Jvm.MethodName) prog_1_method_4_code (2 : Nat) (Option.some Jvm.ClassFile.FieldType.int)) ∈ lw_all := lw_g (lw_at lw_m1 101 rfl) rfl
theorem q116 : (Jvm.Cond.methodLink "UndoReader" (85 : Nat) ({ cls := "UndoReader", name := "note", desc := "(II)V" } : Jvm.MethodName)) ∈ lw_all := lw_g (lw_at lw_m1 102 rfl) rfl
theorem q117 : (Jvm.Cond.privateMethod ({ cls := "UndoReader", name := "note", desc := "(II)V" } : Jvm.MethodName)) ∈ lw_tbl := lw_at lw_m1 103 rfl
theorem q118 : (Jvm.Cond.instanceMethod ({ cls := "UndoReader", name := "note", desc := "(II)V" } : Jvm.MethodName)) ∈ lw_all := lw_g (lw_at lw_m1 104 rfl) rfl
theorem q119 : (Jvm.Cond.code ({ cls := "UndoReader", name := "note", desc := "(II)V" } : Jvm.MethodName) prog_1_method_11_code (4 : Nat) (Option.none : Option Jvm.ClassFile.FieldType)) ∈ lw_all := lw_g (lw_at lw_m1 105 rfl) rfl
theorem q121 : (Jvm.Cond.instanceMethod ({ cls := "UndoReader", name := "commit", desc := "(I)I" } : Jvm.MethodName)) ∈ lw_all := lw_g (lw_at lw_m1 107 rfl) rfl
theorem q122 : (Jvm.Cond.selects "UndoReader" ({ cls := "UndoReader", name := "commit", desc := "(I)I" } : Jvm.MethodName) ({ cls := "UndoReader", name := "commit", desc := "(I)I" } : Jvm.MethodName)) ∈ lw_all := lw_g (lw_at lw_m1 108 rfl) rfl
theorem q123 : (Jvm.Cond.code ({ cls := "UndoReader", name := "commit", desc := "(I)I" } : Jvm.MethodName) prog_1_method_9_code (2 : Nat) (Option.some Jvm.ClassFile.FieldType.int)) ∈ lw_all := lw_g (lw_at lw_m1 109 rfl) rfl
theorem q125 : (Jvm.Cond.instanceMethod ({ cls := "UndoReader", name := "rollback", desc := "(I)I" } : Jvm.MethodName)) ∈ lw_all := lw_g (lw_at lw_m1 111 rfl) rfl
theorem q126 : (Jvm.Cond.selects "UndoReader" ({ cls := "UndoReader", name := "rollback", desc := "(I)I" } : Jvm.MethodName) ({ cls := "UndoReader", name := "rollback", desc := "(I)I" } : Jvm.MethodName)) ∈ lw_all := lw_g (lw_at lw_m1 112 rfl) rfl
theorem q127 : (Jvm.Cond.code ({ cls := "UndoReader", name := "rollback", desc := "(I)I" } : Jvm.MethodName) prog_1_method_10_code (6 : Nat) (Option.some Jvm.ClassFile.FieldType.int)) ∈ lw_all := lw_g (lw_at lw_m1 113 rfl) rfl
theorem q129 : (Jvm.Cond.instanceMethod ({ cls := "UndoReader", name := "clock", desc := "()I" } : Jvm.MethodName)) ∈ lw_all := lw_g (lw_at lw_m1 115 rfl) rfl
theorem q130 : (Jvm.Cond.selects "UndoReader" ({ cls := "UndoReader", name := "clock", desc := "()I" } : Jvm.MethodName) ({ cls := "UndoReader", name := "clock", desc := "()I" } : Jvm.MethodName)) ∈ lw_all := lw_g (lw_at lw_m1 116 rfl) rfl
theorem q131 : (Jvm.Cond.code ({ cls := "UndoReader", name := "clock", desc := "()I" } : Jvm.MethodName) prog_1_method_14_code (1 : Nat) (Option.some Jvm.ClassFile.FieldType.int)) ∈ lw_all := lw_g (lw_at lw_m1 117 rfl) rfl
theorem q133 : (Jvm.Cond.instanceMethod ({ cls := "UndoReader", name := "read", desc := "(III)I" } : Jvm.MethodName)) ∈ lw_all := lw_g (lw_at lw_m1 119 rfl) rfl
theorem q134 : (Jvm.Cond.selects "UndoReader" ({ cls := "UndoReader", name := "read", desc := "(III)I" } : Jvm.MethodName) ({ cls := "UndoReader", name := "read", desc := "(III)I" } : Jvm.MethodName)) ∈ lw_all := lw_g (lw_at lw_m1 120 rfl) rfl
theorem q135 : (Jvm.Cond.code ({ cls := "UndoReader", name := "read", desc := "(III)I" } : Jvm.MethodName) prog_1_method_15_code (5 : Nat) (Option.some Jvm.ClassFile.FieldType.int)) ∈ lw_all := lw_g (lw_at lw_m1 121 rfl) rfl
theorem q136 : (Jvm.Cond.methodLink "UndoReader" (98 : Nat) ({ cls := "UndoReader", name := "seen", desc := "(II)I" } : Jvm.MethodName)) ∈ lw_all := lw_g (lw_at lw_m1 122 rfl) rfl
theorem q137 : (Jvm.Cond.privateMethod ({ cls := "UndoReader", name := "seen", desc := "(II)I" } : Jvm.MethodName)) ∈ lw_tbl := lw_at lw_m1 123 rfl
theorem q138 : (Jvm.Cond.instanceMethod ({ cls := "UndoReader", name := "seen", desc := "(II)I" } : Jvm.MethodName)) ∈ lw_all := lw_g (lw_at lw_m1 124 rfl) rfl
theorem q139 : (Jvm.Cond.code ({ cls := "UndoReader", name := "seen", desc := "(II)I" } : Jvm.MethodName) prog_1_method_16_code (6 : Nat) (Option.some Jvm.ClassFile.FieldType.int)) ∈ lw_all := lw_g (lw_at lw_m1 125 rfl) rfl
theorem q140 : (Jvm.Cond.constant "UndoReader" (102 : Nat) (-2000000000 : Int32)) ∈ lw_all := lw_g (lw_at lw_m1 126 rfl) rfl
theorem q141 : (Jvm.Cond.methodLink "UndoReader" (103 : Nat) ({ cls := "UndoReader", name := "isAfter", desc := "(II)Z" } : Jvm.MethodName)) ∈ lw_all := lw_g (lw_at lw_m1 127 rfl) rfl
theorem q142 : (Jvm.Cond.privateMethod ({ cls := "UndoReader", name := "isAfter", desc := "(II)Z" } : Jvm.MethodName)) ∈ lw_tbl := lw_at lw_m1 128 rfl
theorem q143 : (Jvm.Cond.instanceMethod ({ cls := "UndoReader", name := "isAfter", desc := "(II)Z" } : Jvm.MethodName)) ∈ lw_all := lw_g (lw_at lw_m1 129 rfl) rfl
theorem q144 : (Jvm.Cond.code ({ cls := "UndoReader", name := "isAfter", desc := "(II)Z" } : Jvm.MethodName) prog_1_method_17_code (4 : Nat) (Option.some Jvm.ClassFile.FieldType.boolean)) ∈ lw_all := lw_g (lw_at lw_m1 130 rfl) rfl
theorem q146 : (Jvm.Cond.instanceMethod ({ cls := "UndoReader", name := "raw", desc := "(I)I" } : Jvm.MethodName)) ∈ lw_all := lw_g (lw_at lw_m1 132 rfl) rfl
theorem q147 : (Jvm.Cond.selects "UndoReader" ({ cls := "UndoReader", name := "raw", desc := "(I)I" } : Jvm.MethodName) ({ cls := "UndoReader", name := "raw", desc := "(I)I" } : Jvm.MethodName)) ∈ lw_all := lw_g (lw_at lw_m1 133 rfl) rfl
theorem q148 : (Jvm.Cond.code ({ cls := "UndoReader", name := "raw", desc := "(I)I" } : Jvm.MethodName) prog_1_method_18_code (2 : Nat) (Option.some Jvm.ClassFile.FieldType.int)) ∈ lw_all := lw_g (lw_at lw_m1 134 rfl) rfl
theorem q150 : (Jvm.Cond.instanceMethod ({ cls := "UndoReader", name := "holder", desc := "(I)I" } : Jvm.MethodName)) ∈ lw_all := lw_g (lw_at lw_m1 136 rfl) rfl
theorem q151 : (Jvm.Cond.selects "UndoReader" ({ cls := "UndoReader", name := "holder", desc := "(I)I" } : Jvm.MethodName) ({ cls := "UndoReader", name := "holder", desc := "(I)I" } : Jvm.MethodName)) ∈ lw_all := lw_g (lw_at lw_m1 137 rfl) rfl
theorem q152 : (Jvm.Cond.code ({ cls := "UndoReader", name := "holder", desc := "(I)I" } : Jvm.MethodName) prog_1_method_19_code (4 : Nat) (Option.some Jvm.ClassFile.FieldType.int)) ∈ lw_all := lw_g (lw_at lw_m1 138 rfl) rfl
theorem q154 : (Jvm.Cond.instanceMethod ({ cls := "UndoReader", name := "locks", desc := "(I)I" } : Jvm.MethodName)) ∈ lw_all := lw_g (lw_at lw_m1 140 rfl) rfl
theorem q155 : (Jvm.Cond.selects "UndoReader" ({ cls := "UndoReader", name := "locks", desc := "(I)I" } : Jvm.MethodName) ({ cls := "UndoReader", name := "locks", desc := "(I)I" } : Jvm.MethodName)) ∈ lw_all := lw_g (lw_at lw_m1 141 rfl) rfl
theorem q156 : (Jvm.Cond.code ({ cls := "UndoReader", name := "locks", desc := "(I)I" } : Jvm.MethodName) prog_1_method_20_code (5 : Nat) (Option.some Jvm.ClassFile.FieldType.int)) ∈ lw_all := lw_g (lw_at lw_m1 142 rfl) rfl
theorem q158 : (Jvm.Cond.instanceMethod ({ cls := "UndoReader", name := "remembered", desc := "()I" } : Jvm.MethodName)) ∈ lw_all := lw_g (lw_at lw_m1 144 rfl) rfl
theorem q159 : (Jvm.Cond.selects "UndoReader" ({ cls := "UndoReader", name := "remembered", desc := "()I" } : Jvm.MethodName) ({ cls := "UndoReader", name := "remembered", desc := "()I" } : Jvm.MethodName)) ∈ lw_all := lw_g (lw_at lw_m1 145 rfl) rfl
theorem q160 : (Jvm.Cond.code ({ cls := "UndoReader", name := "remembered", desc := "()I" } : Jvm.MethodName) prog_1_method_21_code (1 : Nat) (Option.some Jvm.ClassFile.FieldType.int)) ∈ lw_all := lw_g (lw_at lw_m1 146 rfl) rfl
theorem q162 : (Jvm.Cond.instanceMethod ({ cls := "UndoReader", name := "changes", desc := "(I)I" } : Jvm.MethodName)) ∈ lw_all := lw_g (lw_at lw_m1 148 rfl) rfl
theorem q163 : (Jvm.Cond.selects "UndoReader" ({ cls := "UndoReader", name := "changes", desc := "(I)I" } : Jvm.MethodName) ({ cls := "UndoReader", name := "changes", desc := "(I)I" } : Jvm.MethodName)) ∈ lw_all := lw_g (lw_at lw_m1 149 rfl) rfl
theorem q164 : (Jvm.Cond.code ({ cls := "UndoReader", name := "changes", desc := "(I)I" } : Jvm.MethodName) prog_1_method_22_code (2 : Nat) (Option.some Jvm.ClassFile.FieldType.int)) ∈ lw_all := lw_g (lw_at lw_m1 150 rfl) rfl
theorem q166 : (Jvm.Cond.instanceMethod ({ cls := "UndoReader", name := "oldest", desc := "(I)I" } : Jvm.MethodName)) ∈ lw_all := lw_g (lw_at lw_m1 152 rfl) rfl
theorem q167 : (Jvm.Cond.selects "UndoReader" ({ cls := "UndoReader", name := "oldest", desc := "(I)I" } : Jvm.MethodName) ({ cls := "UndoReader", name := "oldest", desc := "(I)I" } : Jvm.MethodName)) ∈ lw_all := lw_g (lw_at lw_m1 153 rfl) rfl
theorem q168 : (Jvm.Cond.code ({ cls := "UndoReader", name := "oldest", desc := "(I)I" } : Jvm.MethodName) prog_1_method_23_code (2 : Nat) (Option.some Jvm.ClassFile.FieldType.int)) ∈ lw_all := lw_g (lw_at lw_m1 154 rfl) rfl
theorem q170 : (Jvm.Cond.instanceMethod ({ cls := "UndoReader", name := "changedSince", desc := "(I)I" } : Jvm.MethodName)) ∈ lw_all := lw_g (lw_at lw_m1 156 rfl) rfl
theorem q171 : (Jvm.Cond.selects "UndoReader" ({ cls := "UndoReader", name := "changedSince", desc := "(I)I" } : Jvm.MethodName) ({ cls := "UndoReader", name := "changedSince", desc := "(I)I" } : Jvm.MethodName)) ∈ lw_all := lw_g (lw_at lw_m1 157 rfl) rfl
theorem q172 : (Jvm.Cond.code ({ cls := "UndoReader", name := "changedSince", desc := "(I)I" } : Jvm.MethodName) prog_1_method_24_code (7 : Nat) (Option.some Jvm.ClassFile.FieldType.int)) ∈ lw_all := lw_g (lw_at lw_m1 158 rfl) rfl
theorem in_X0 : ∀ w ∈ wsX00, w ∈ lw_all := lw_in wsX00 [43, 45, 47, 49, 51, 53, 55, 57, 59, 61, 63, 65, 67, 69, 71, 73, 75, 77] (by decide +kernel) (by decide +kernel)
end
section
/-! UndoReaderModel -/
set_option maxRecDepth 100000
def RX1 : String := "UndoReaderModel"
def TX1 : u_T := fun k => match k with
  | 0 => ("UndoReaderModel", "size", "I", false)
  | 1 => ("UndoReaderModel", "row", "[I", false)
  | 2 => ("UndoReaderModel", "value", "[I", false)
  | 3 => ("UndoReaderModel", "before", "[I", false)
  | 4 => ("UndoReaderModel", "who", "[I", false)
  | 5 => ("UndoReaderModel", "number", "[I", false)
  | 6 => ("UndoReaderModel", "kept", "[Z", false)
  | 7 => ("UndoReaderModel", "time", "I", false)
  | 8 => ("UndoReaderModel", "now", "[I", false)
  | 9 => ("UndoReaderModel", "lock", "[I", false)
  | _ => ("UndoReaderModel", "gone", "[I", false)
def tyX1 : Nat → FieldType := fun k => match k with
  | 0 => .int
  | 1 => .array .int
  | 2 => .array .int
  | 3 => .array .int
  | 4 => .array .int
  | 5 => .array .int
  | 6 => .array .boolean
  | 7 => .int
  | 8 => .array .int
  | 9 => .array .int
  | _ => .array .int
abbrev wsX10 : List Cond := u_ws RX1 TX1 11
theorem nmX1 : ∀ a, a < 11 → ∀ b, b < 11 → a ≠ b → (TX1 a).2.1 ≠ (TX1 b).2.1 := by decide +kernel
theorem tyX1_ok : ∀ k, k < 11 → parseFieldDescriptor (TX1 k).2.2.1 = some (tyX1 k) := by decide +kernel
abbrev cX1_init : ByteArray := prog_3_method_1_code
def yX1_init : MethodName := ⟨RX1, "<init>", "()V"⟩
theorem dX1_init_0 : decode cX1_init 0 = .ok (.aload_n 0, 1) := by decide +kernel
theorem dX1_init_1 : decode cX1_init 1 = .ok (.invokespecial 1, 3) := by decide +kernel
theorem dX1_init_4 : decode cX1_init 4 = .ok (.aload_n 0, 1) := by decide +kernel
theorem dX1_init_5 : decode cX1_init 5 = .ok (.sipush 512, 3) := by decide +kernel
theorem dX1_init_8 : decode cX1_init 8 = .ok (.newarray .int, 2) := by decide +kernel
theorem dX1_init_10 : decode cX1_init 10 = .ok (.putfield 7, 3) := by decide +kernel
theorem dX1_init_13 : decode cX1_init 13 = .ok (.aload_n 0, 1) := by decide +kernel
theorem dX1_init_14 : decode cX1_init 14 = .ok (.sipush 512, 3) := by decide +kernel
theorem dX1_init_17 : decode cX1_init 17 = .ok (.newarray .int, 2) := by decide +kernel
theorem dX1_init_19 : decode cX1_init 19 = .ok (.putfield 13, 3) := by decide +kernel
theorem dX1_init_22 : decode cX1_init 22 = .ok (.aload_n 0, 1) := by decide +kernel
theorem dX1_init_23 : decode cX1_init 23 = .ok (.sipush 512, 3) := by decide +kernel
theorem dX1_init_26 : decode cX1_init 26 = .ok (.newarray .int, 2) := by decide +kernel
theorem dX1_init_28 : decode cX1_init 28 = .ok (.putfield 16, 3) := by decide +kernel
theorem dX1_init_31 : decode cX1_init 31 = .ok (.aload_n 0, 1) := by decide +kernel
theorem dX1_init_32 : decode cX1_init 32 = .ok (.sipush 512, 3) := by decide +kernel
theorem dX1_init_35 : decode cX1_init 35 = .ok (.newarray .int, 2) := by decide +kernel
theorem dX1_init_37 : decode cX1_init 37 = .ok (.putfield 19, 3) := by decide +kernel
theorem dX1_init_40 : decode cX1_init 40 = .ok (.aload_n 0, 1) := by decide +kernel
theorem dX1_init_41 : decode cX1_init 41 = .ok (.sipush 512, 3) := by decide +kernel
theorem dX1_init_44 : decode cX1_init 44 = .ok (.newarray .int, 2) := by decide +kernel
theorem dX1_init_46 : decode cX1_init 46 = .ok (.putfield 22, 3) := by decide +kernel
theorem dX1_init_49 : decode cX1_init 49 = .ok (.aload_n 0, 1) := by decide +kernel
theorem dX1_init_50 : decode cX1_init 50 = .ok (.sipush 512, 3) := by decide +kernel
theorem dX1_init_53 : decode cX1_init 53 = .ok (.newarray .boolean, 2) := by decide +kernel
theorem dX1_init_55 : decode cX1_init 55 = .ok (.putfield 25, 3) := by decide +kernel
theorem dX1_init_58 : decode cX1_init 58 = .ok (.aload_n 0, 1) := by decide +kernel
theorem dX1_init_59 : decode cX1_init 59 = .ok (.bipush 8, 2) := by decide +kernel
theorem dX1_init_61 : decode cX1_init 61 = .ok (.newarray .int, 2) := by decide +kernel
theorem dX1_init_63 : decode cX1_init 63 = .ok (.putfield 29, 3) := by decide +kernel
theorem dX1_init_66 : decode cX1_init 66 = .ok (.aload_n 0, 1) := by decide +kernel
theorem dX1_init_67 : decode cX1_init 67 = .ok (.bipush 8, 2) := by decide +kernel
theorem dX1_init_69 : decode cX1_init 69 = .ok (.newarray .int, 2) := by decide +kernel
theorem dX1_init_71 : decode cX1_init 71 = .ok (.putfield 32, 3) := by decide +kernel
theorem dX1_init_74 : decode cX1_init 74 = .ok (.aload_n 0, 1) := by decide +kernel
theorem dX1_init_75 : decode cX1_init 75 = .ok (.bipush 8, 2) := by decide +kernel
theorem dX1_init_77 : decode cX1_init 77 = .ok (.newarray .int, 2) := by decide +kernel
theorem dX1_init_79 : decode cX1_init 79 = .ok (.putfield 35, 3) := by decide +kernel
theorem dX1_init_82 : decode cX1_init 82 = .ok (.iconst 0, 1) := by decide +kernel
theorem dX1_init_83 : decode cX1_init 83 = .ok (.istore_n 1, 1) := by decide +kernel
theorem dX1_init_84 : decode cX1_init 84 = .ok (.iload_n 1, 1) := by decide +kernel
theorem dX1_init_85 : decode cX1_init 85 = .ok (.bipush 8, 2) := by decide +kernel
theorem dX1_init_87 : decode cX1_init 87 = .ok (.if_icmp .ge 17, 3) := by decide +kernel
theorem dX1_init_90 : decode cX1_init 90 = .ok (.aload_n 0, 1) := by decide +kernel
theorem dX1_init_91 : decode cX1_init 91 = .ok (.getfield 32, 3) := by decide +kernel
theorem dX1_init_94 : decode cX1_init 94 = .ok (.iload_n 1, 1) := by decide +kernel
theorem dX1_init_95 : decode cX1_init 95 = .ok (.bipush (-4), 2) := by decide +kernel
theorem dX1_init_97 : decode cX1_init 97 = .ok (.iastore, 1) := by decide +kernel
theorem dX1_init_98 : decode cX1_init 98 = .ok (.iinc 1 1, 3) := by decide +kernel
theorem dX1_init_101 : decode cX1_init 101 = .ok (.goto (-17), 3) := by decide +kernel
theorem dX1_init_104 : decode cX1_init 104 = .ok (.return_, 1) := by decide +kernel
abbrev cX1_change : ByteArray := prog_3_method_5_code
def yX1_change : MethodName := ⟨RX1, "change", "(III)I"⟩
theorem dX1_change_0 : decode cX1_change 0 = .ok (.aload_n 0, 1) := by decide +kernel
theorem dX1_change_1 : decode cX1_change 1 = .ok (.iload_n 1, 1) := by decide +kernel
theorem dX1_change_2 : decode cX1_change 2 = .ok (.invokevirtual 42, 3) := by decide +kernel
theorem dX1_change_5 : decode cX1_change 5 = .ok (.ifCond .eq 11, 3) := by decide +kernel
theorem dX1_change_8 : decode cX1_change 8 = .ok (.aload_n 0, 1) := by decide +kernel
theorem dX1_change_9 : decode cX1_change 9 = .ok (.iload_n 2, 1) := by decide +kernel
theorem dX1_change_10 : decode cX1_change 10 = .ok (.invokevirtual 46, 3) := by decide +kernel
theorem dX1_change_13 : decode cX1_change 13 = .ok (.ifCond .ne 5, 3) := by decide +kernel
theorem dX1_change_16 : decode cX1_change 16 = .ok (.iconst (-1), 1) := by decide +kernel
theorem dX1_change_17 : decode cX1_change 17 = .ok (.ireturn, 1) := by decide +kernel
theorem dX1_change_18 : decode cX1_change 18 = .ok (.aload_n 0, 1) := by decide +kernel
theorem dX1_change_19 : decode cX1_change 19 = .ok (.getfield 32, 3) := by decide +kernel
theorem dX1_change_22 : decode cX1_change 22 = .ok (.iload_n 2, 1) := by decide +kernel
theorem dX1_change_23 : decode cX1_change 23 = .ok (.iaload, 1) := by decide +kernel
theorem dX1_change_24 : decode cX1_change 24 = .ok (.bipush (-4), 2) := by decide +kernel
theorem dX1_change_26 : decode cX1_change 26 = .ok (.if_icmp .eq 16, 3) := by decide +kernel
theorem dX1_change_29 : decode cX1_change 29 = .ok (.aload_n 0, 1) := by decide +kernel
theorem dX1_change_30 : decode cX1_change 30 = .ok (.getfield 32, 3) := by decide +kernel
theorem dX1_change_33 : decode cX1_change 33 = .ok (.iload_n 2, 1) := by decide +kernel
theorem dX1_change_34 : decode cX1_change 34 = .ok (.iaload, 1) := by decide +kernel
theorem dX1_change_35 : decode cX1_change 35 = .ok (.iload_n 1, 1) := by decide +kernel
theorem dX1_change_36 : decode cX1_change 36 = .ok (.if_icmp .eq 6, 3) := by decide +kernel
theorem dX1_change_39 : decode cX1_change 39 = .ok (.bipush (-2), 2) := by decide +kernel
theorem dX1_change_41 : decode cX1_change 41 = .ok (.ireturn, 1) := by decide +kernel
theorem dX1_change_42 : decode cX1_change 42 = .ok (.aload_n 0, 1) := by decide +kernel
theorem dX1_change_43 : decode cX1_change 43 = .ok (.invokevirtual 49, 3) := by decide +kernel
theorem dX1_change_46 : decode cX1_change 46 = .ok (.bipush 24, 2) := by decide +kernel
theorem dX1_change_48 : decode cX1_change 48 = .ok (.if_icmp .ge 7, 3) := by decide +kernel
theorem dX1_change_51 : decode cX1_change 51 = .ok (.iconst (-1), 1) := by decide +kernel
theorem dX1_change_52 : decode cX1_change 52 = .ok (.goto 7, 3) := by decide +kernel
theorem dX1_change_55 : decode cX1_change 55 = .ok (.aload_n 0, 1) := by decide +kernel
theorem dX1_change_56 : decode cX1_change 56 = .ok (.invokevirtual 53, 3) := by decide +kernel
theorem dX1_change_59 : decode cX1_change 59 = .ok (.istore 4, 2) := by decide +kernel
theorem dX1_change_61 : decode cX1_change 61 = .ok (.aload_n 0, 1) := by decide +kernel
theorem dX1_change_62 : decode cX1_change 62 = .ok (.getfield 38, 3) := by decide +kernel
theorem dX1_change_65 : decode cX1_change 65 = .ok (.sipush 512, 3) := by decide +kernel
theorem dX1_change_68 : decode cX1_change 68 = .ok (.if_icmp .ge 18, 3) := by decide +kernel
theorem dX1_change_71 : decode cX1_change 71 = .ok (.iload 4, 2) := by decide +kernel
theorem dX1_change_73 : decode cX1_change 73 = .ok (.ifCond .lt 16, 3) := by decide +kernel
theorem dX1_change_76 : decode cX1_change 76 = .ok (.aload_n 0, 1) := by decide +kernel
theorem dX1_change_77 : decode cX1_change 77 = .ok (.getfield 22, 3) := by decide +kernel
theorem dX1_change_80 : decode cX1_change 80 = .ok (.iload 4, 2) := by decide +kernel
theorem dX1_change_82 : decode cX1_change 82 = .ok (.iaload, 1) := by decide +kernel
theorem dX1_change_83 : decode cX1_change 83 = .ok (.ifCond .ne 6, 3) := by decide +kernel
theorem dX1_change_86 : decode cX1_change 86 = .ok (.bipush (-3), 2) := by decide +kernel
theorem dX1_change_88 : decode cX1_change 88 = .ok (.ireturn, 1) := by decide +kernel
theorem dX1_change_89 : decode cX1_change 89 = .ok (.iload 4, 2) := by decide +kernel
theorem dX1_change_91 : decode cX1_change 91 = .ok (.ifCond .lt 61, 3) := by decide +kernel
theorem dX1_change_94 : decode cX1_change 94 = .ok (.aload_n 0, 1) := by decide +kernel
theorem dX1_change_95 : decode cX1_change 95 = .ok (.getfield 25, 3) := by decide +kernel
theorem dX1_change_98 : decode cX1_change 98 = .ok (.iload 4, 2) := by decide +kernel
theorem dX1_change_100 : decode cX1_change 100 = .ok (.iconst 0, 1) := by decide +kernel
theorem dX1_change_101 : decode cX1_change 101 = .ok (.bastore, 1) := by decide +kernel
theorem dX1_change_102 : decode cX1_change 102 = .ok (.aload_n 0, 1) := by decide +kernel
theorem dX1_change_103 : decode cX1_change 103 = .ok (.getfield 7, 3) := by decide +kernel
theorem dX1_change_106 : decode cX1_change 106 = .ok (.iload 4, 2) := by decide +kernel
theorem dX1_change_108 : decode cX1_change 108 = .ok (.iaload, 1) := by decide +kernel
theorem dX1_change_109 : decode cX1_change 109 = .ok (.istore 5, 2) := by decide +kernel
theorem dX1_change_111 : decode cX1_change 111 = .ok (.aload_n 0, 1) := by decide +kernel
theorem dX1_change_112 : decode cX1_change 112 = .ok (.getfield 35, 3) := by decide +kernel
theorem dX1_change_115 : decode cX1_change 115 = .ok (.iload 5, 2) := by decide +kernel
theorem dX1_change_117 : decode cX1_change 117 = .ok (.aload_n 0, 1) := by decide +kernel
theorem dX1_change_118 : decode cX1_change 118 = .ok (.getfield 22, 3) := by decide +kernel
theorem dX1_change_121 : decode cX1_change 121 = .ok (.iload 4, 2) := by decide +kernel
theorem dX1_change_123 : decode cX1_change 123 = .ok (.iaload, 1) := by decide +kernel
theorem dX1_change_124 : decode cX1_change 124 = .ok (.aload_n 0, 1) := by decide +kernel
theorem dX1_change_125 : decode cX1_change 125 = .ok (.getfield 35, 3) := by decide +kernel
theorem dX1_change_128 : decode cX1_change 128 = .ok (.iload 5, 2) := by decide +kernel
theorem dX1_change_130 : decode cX1_change 130 = .ok (.iaload, 1) := by decide +kernel
theorem dX1_change_131 : decode cX1_change 131 = .ok (.if_icmp .le 13, 3) := by decide +kernel
theorem dX1_change_134 : decode cX1_change 134 = .ok (.aload_n 0, 1) := by decide +kernel
theorem dX1_change_135 : decode cX1_change 135 = .ok (.getfield 22, 3) := by decide +kernel
theorem dX1_change_138 : decode cX1_change 138 = .ok (.iload 4, 2) := by decide +kernel
theorem dX1_change_140 : decode cX1_change 140 = .ok (.iaload, 1) := by decide +kernel
theorem dX1_change_141 : decode cX1_change 141 = .ok (.goto 10, 3) := by decide +kernel
theorem dX1_change_144 : decode cX1_change 144 = .ok (.aload_n 0, 1) := by decide +kernel
theorem dX1_change_145 : decode cX1_change 145 = .ok (.getfield 35, 3) := by decide +kernel
theorem dX1_change_148 : decode cX1_change 148 = .ok (.iload 5, 2) := by decide +kernel
theorem dX1_change_150 : decode cX1_change 150 = .ok (.iaload, 1) := by decide +kernel
theorem dX1_change_151 : decode cX1_change 151 = .ok (.iastore, 1) := by decide +kernel
theorem dX1_change_152 : decode cX1_change 152 = .ok (.aload_n 0, 1) := by decide +kernel
theorem dX1_change_153 : decode cX1_change 153 = .ok (.getfield 7, 3) := by decide +kernel
theorem dX1_change_156 : decode cX1_change 156 = .ok (.aload_n 0, 1) := by decide +kernel
theorem dX1_change_157 : decode cX1_change 157 = .ok (.getfield 38, 3) := by decide +kernel
theorem dX1_change_160 : decode cX1_change 160 = .ok (.iload_n 2, 1) := by decide +kernel
theorem dX1_change_161 : decode cX1_change 161 = .ok (.iastore, 1) := by decide +kernel
theorem dX1_change_162 : decode cX1_change 162 = .ok (.aload_n 0, 1) := by decide +kernel
theorem dX1_change_163 : decode cX1_change 163 = .ok (.getfield 13, 3) := by decide +kernel
theorem dX1_change_166 : decode cX1_change 166 = .ok (.aload_n 0, 1) := by decide +kernel
theorem dX1_change_167 : decode cX1_change 167 = .ok (.getfield 38, 3) := by decide +kernel
theorem dX1_change_170 : decode cX1_change 170 = .ok (.iload_n 3, 1) := by decide +kernel
theorem dX1_change_171 : decode cX1_change 171 = .ok (.iastore, 1) := by decide +kernel
theorem dX1_change_172 : decode cX1_change 172 = .ok (.aload_n 0, 1) := by decide +kernel
theorem dX1_change_173 : decode cX1_change 173 = .ok (.getfield 16, 3) := by decide +kernel
theorem dX1_change_176 : decode cX1_change 176 = .ok (.aload_n 0, 1) := by decide +kernel
theorem dX1_change_177 : decode cX1_change 177 = .ok (.getfield 38, 3) := by decide +kernel
theorem dX1_change_180 : decode cX1_change 180 = .ok (.aload_n 0, 1) := by decide +kernel
theorem dX1_change_181 : decode cX1_change 181 = .ok (.getfield 29, 3) := by decide +kernel
theorem dX1_change_184 : decode cX1_change 184 = .ok (.iload_n 2, 1) := by decide +kernel
theorem dX1_change_185 : decode cX1_change 185 = .ok (.iaload, 1) := by decide +kernel
theorem dX1_change_186 : decode cX1_change 186 = .ok (.iastore, 1) := by decide +kernel
theorem dX1_change_187 : decode cX1_change 187 = .ok (.aload_n 0, 1) := by decide +kernel
theorem dX1_change_188 : decode cX1_change 188 = .ok (.getfield 19, 3) := by decide +kernel
theorem dX1_change_191 : decode cX1_change 191 = .ok (.aload_n 0, 1) := by decide +kernel
theorem dX1_change_192 : decode cX1_change 192 = .ok (.getfield 38, 3) := by decide +kernel
theorem dX1_change_195 : decode cX1_change 195 = .ok (.iload_n 1, 1) := by decide +kernel
theorem dX1_change_196 : decode cX1_change 196 = .ok (.iastore, 1) := by decide +kernel
theorem dX1_change_197 : decode cX1_change 197 = .ok (.aload_n 0, 1) := by decide +kernel
theorem dX1_change_198 : decode cX1_change 198 = .ok (.getfield 22, 3) := by decide +kernel
theorem dX1_change_201 : decode cX1_change 201 = .ok (.aload_n 0, 1) := by decide +kernel
theorem dX1_change_202 : decode cX1_change 202 = .ok (.getfield 38, 3) := by decide +kernel
theorem dX1_change_205 : decode cX1_change 205 = .ok (.iconst 0, 1) := by decide +kernel
theorem dX1_change_206 : decode cX1_change 206 = .ok (.iastore, 1) := by decide +kernel
theorem dX1_change_207 : decode cX1_change 207 = .ok (.aload_n 0, 1) := by decide +kernel
theorem dX1_change_208 : decode cX1_change 208 = .ok (.getfield 25, 3) := by decide +kernel
theorem dX1_change_211 : decode cX1_change 211 = .ok (.aload_n 0, 1) := by decide +kernel
theorem dX1_change_212 : decode cX1_change 212 = .ok (.getfield 38, 3) := by decide +kernel
theorem dX1_change_215 : decode cX1_change 215 = .ok (.iconst 1, 1) := by decide +kernel
theorem dX1_change_216 : decode cX1_change 216 = .ok (.bastore, 1) := by decide +kernel
theorem dX1_change_217 : decode cX1_change 217 = .ok (.aload_n 0, 1) := by decide +kernel
theorem dX1_change_218 : decode cX1_change 218 = .ok (.dup, 1) := by decide +kernel
theorem dX1_change_219 : decode cX1_change 219 = .ok (.getfield 38, 3) := by decide +kernel
theorem dX1_change_222 : decode cX1_change 222 = .ok (.iconst 1, 1) := by decide +kernel
theorem dX1_change_223 : decode cX1_change 223 = .ok (.iadd, 1) := by decide +kernel
theorem dX1_change_224 : decode cX1_change 224 = .ok (.putfield 38, 3) := by decide +kernel
theorem dX1_change_227 : decode cX1_change 227 = .ok (.aload_n 0, 1) := by decide +kernel
theorem dX1_change_228 : decode cX1_change 228 = .ok (.getfield 29, 3) := by decide +kernel
theorem dX1_change_231 : decode cX1_change 231 = .ok (.iload_n 2, 1) := by decide +kernel
theorem dX1_change_232 : decode cX1_change 232 = .ok (.iload_n 3, 1) := by decide +kernel
theorem dX1_change_233 : decode cX1_change 233 = .ok (.iastore, 1) := by decide +kernel
theorem dX1_change_234 : decode cX1_change 234 = .ok (.aload_n 0, 1) := by decide +kernel
theorem dX1_change_235 : decode cX1_change 235 = .ok (.getfield 32, 3) := by decide +kernel
theorem dX1_change_238 : decode cX1_change 238 = .ok (.iload_n 2, 1) := by decide +kernel
theorem dX1_change_239 : decode cX1_change 239 = .ok (.iload_n 1, 1) := by decide +kernel
theorem dX1_change_240 : decode cX1_change 240 = .ok (.iastore, 1) := by decide +kernel
theorem dX1_change_241 : decode cX1_change 241 = .ok (.iconst 0, 1) := by decide +kernel
theorem dX1_change_242 : decode cX1_change 242 = .ok (.ireturn, 1) := by decide +kernel
abbrev cX1_session : ByteArray := prog_3_method_2_code
def yX1_session : MethodName := ⟨RX1, "session", "(I)Z"⟩
theorem dX1_session_0 : decode cX1_session 0 = .ok (.iload_n 1, 1) := by decide +kernel
theorem dX1_session_1 : decode cX1_session 1 = .ok (.ifCond .lt 12, 3) := by decide +kernel
theorem dX1_session_4 : decode cX1_session 4 = .ok (.iload_n 1, 1) := by decide +kernel
theorem dX1_session_5 : decode cX1_session 5 = .ok (.iconst 3, 1) := by decide +kernel
theorem dX1_session_6 : decode cX1_session 6 = .ok (.if_icmp .gt 7, 3) := by decide +kernel
theorem dX1_session_9 : decode cX1_session 9 = .ok (.iconst 1, 1) := by decide +kernel
theorem dX1_session_10 : decode cX1_session 10 = .ok (.goto 4, 3) := by decide +kernel
theorem dX1_session_13 : decode cX1_session 13 = .ok (.iconst 0, 1) := by decide +kernel
theorem dX1_session_14 : decode cX1_session 14 = .ok (.ireturn, 1) := by decide +kernel
abbrev cX1_isRow : ByteArray := prog_3_method_3_code
def yX1_isRow : MethodName := ⟨RX1, "isRow", "(I)Z"⟩
theorem dX1_isRow_0 : decode cX1_isRow 0 = .ok (.iload_n 1, 1) := by decide +kernel
theorem dX1_isRow_1 : decode cX1_isRow 1 = .ok (.ifCond .lt 13, 3) := by decide +kernel
theorem dX1_isRow_4 : decode cX1_isRow 4 = .ok (.iload_n 1, 1) := by decide +kernel
theorem dX1_isRow_5 : decode cX1_isRow 5 = .ok (.bipush 7, 2) := by decide +kernel
theorem dX1_isRow_7 : decode cX1_isRow 7 = .ok (.if_icmp .gt 7, 3) := by decide +kernel
theorem dX1_isRow_10 : decode cX1_isRow 10 = .ok (.iconst 1, 1) := by decide +kernel
theorem dX1_isRow_11 : decode cX1_isRow 11 = .ok (.goto 4, 3) := by decide +kernel
theorem dX1_isRow_14 : decode cX1_isRow 14 = .ok (.iconst 0, 1) := by decide +kernel
theorem dX1_isRow_15 : decode cX1_isRow 15 = .ok (.ireturn, 1) := by decide +kernel
abbrev cX1_remembered : ByteArray := prog_3_method_15_code
def yX1_remembered : MethodName := ⟨RX1, "remembered", "()I"⟩
theorem dX1_remembered_0 : decode cX1_remembered 0 = .ok (.iconst 0, 1) := by decide +kernel
theorem dX1_remembered_1 : decode cX1_remembered 1 = .ok (.istore_n 1, 1) := by decide +kernel
theorem dX1_remembered_2 : decode cX1_remembered 2 = .ok (.iconst 0, 1) := by decide +kernel
theorem dX1_remembered_3 : decode cX1_remembered 3 = .ok (.istore_n 2, 1) := by decide +kernel
theorem dX1_remembered_4 : decode cX1_remembered 4 = .ok (.iload_n 2, 1) := by decide +kernel
theorem dX1_remembered_5 : decode cX1_remembered 5 = .ok (.aload_n 0, 1) := by decide +kernel
theorem dX1_remembered_6 : decode cX1_remembered 6 = .ok (.getfield 38, 3) := by decide +kernel
theorem dX1_remembered_9 : decode cX1_remembered 9 = .ok (.if_icmp .ge 26, 3) := by decide +kernel
theorem dX1_remembered_12 : decode cX1_remembered 12 = .ok (.aload_n 0, 1) := by decide +kernel
theorem dX1_remembered_13 : decode cX1_remembered 13 = .ok (.getfield 25, 3) := by decide +kernel
theorem dX1_remembered_16 : decode cX1_remembered 16 = .ok (.iload_n 2, 1) := by decide +kernel
theorem dX1_remembered_17 : decode cX1_remembered 17 = .ok (.baload, 1) := by decide +kernel
theorem dX1_remembered_18 : decode cX1_remembered 18 = .ok (.ifCond .eq 9, 3) := by decide +kernel
theorem dX1_remembered_21 : decode cX1_remembered 21 = .ok (.iload_n 1, 1) := by decide +kernel
theorem dX1_remembered_22 : decode cX1_remembered 22 = .ok (.iconst 1, 1) := by decide +kernel
theorem dX1_remembered_23 : decode cX1_remembered 23 = .ok (.iadd, 1) := by decide +kernel
theorem dX1_remembered_24 : decode cX1_remembered 24 = .ok (.goto 4, 3) := by decide +kernel
theorem dX1_remembered_27 : decode cX1_remembered 27 = .ok (.iload_n 1, 1) := by decide +kernel
theorem dX1_remembered_28 : decode cX1_remembered 28 = .ok (.istore_n 1, 1) := by decide +kernel
theorem dX1_remembered_29 : decode cX1_remembered 29 = .ok (.iinc 2 1, 3) := by decide +kernel
theorem dX1_remembered_32 : decode cX1_remembered 32 = .ok (.goto (-28), 3) := by decide +kernel
theorem dX1_remembered_35 : decode cX1_remembered 35 = .ok (.iload_n 1, 1) := by decide +kernel
theorem dX1_remembered_36 : decode cX1_remembered 36 = .ok (.ireturn, 1) := by decide +kernel
abbrev cX1_oldestKept : ByteArray := prog_3_method_4_code
def yX1_oldestKept : MethodName := ⟨RX1, "oldestKept", "()I"⟩
theorem dX1_oldestKept_0 : decode cX1_oldestKept 0 = .ok (.iconst 0, 1) := by decide +kernel
theorem dX1_oldestKept_1 : decode cX1_oldestKept 1 = .ok (.istore_n 1, 1) := by decide +kernel
theorem dX1_oldestKept_2 : decode cX1_oldestKept 2 = .ok (.iload_n 1, 1) := by decide +kernel
theorem dX1_oldestKept_3 : decode cX1_oldestKept 3 = .ok (.aload_n 0, 1) := by decide +kernel
theorem dX1_oldestKept_4 : decode cX1_oldestKept 4 = .ok (.getfield 38, 3) := by decide +kernel
theorem dX1_oldestKept_7 : decode cX1_oldestKept 7 = .ok (.if_icmp .ge 20, 3) := by decide +kernel
theorem dX1_oldestKept_10 : decode cX1_oldestKept 10 = .ok (.aload_n 0, 1) := by decide +kernel
theorem dX1_oldestKept_11 : decode cX1_oldestKept 11 = .ok (.getfield 25, 3) := by decide +kernel
theorem dX1_oldestKept_14 : decode cX1_oldestKept 14 = .ok (.iload_n 1, 1) := by decide +kernel
theorem dX1_oldestKept_15 : decode cX1_oldestKept 15 = .ok (.baload, 1) := by decide +kernel
theorem dX1_oldestKept_16 : decode cX1_oldestKept 16 = .ok (.ifCond .eq 5, 3) := by decide +kernel
theorem dX1_oldestKept_19 : decode cX1_oldestKept 19 = .ok (.iload_n 1, 1) := by decide +kernel
theorem dX1_oldestKept_20 : decode cX1_oldestKept 20 = .ok (.ireturn, 1) := by decide +kernel
theorem dX1_oldestKept_21 : decode cX1_oldestKept 21 = .ok (.iinc 1 1, 3) := by decide +kernel
theorem dX1_oldestKept_24 : decode cX1_oldestKept 24 = .ok (.goto (-22), 3) := by decide +kernel
theorem dX1_oldestKept_27 : decode cX1_oldestKept 27 = .ok (.iconst (-1), 1) := by decide +kernel
theorem dX1_oldestKept_28 : decode cX1_oldestKept 28 = .ok (.ireturn, 1) := by decide +kernel
abbrev cX1_commit : ByteArray := prog_3_method_7_code
def yX1_commit : MethodName := ⟨RX1, "commit", "(I)I"⟩
theorem dX1_commit_0 : decode cX1_commit 0 = .ok (.aload_n 0, 1) := by decide +kernel
theorem dX1_commit_1 : decode cX1_commit 1 = .ok (.iload_n 1, 1) := by decide +kernel
theorem dX1_commit_2 : decode cX1_commit 2 = .ok (.invokevirtual 56, 3) := by decide +kernel
theorem dX1_commit_5 : decode cX1_commit 5 = .ok (.ifCond .ne 6, 3) := by decide +kernel
theorem dX1_commit_8 : decode cX1_commit 8 = .ok (.bipush (-4), 2) := by decide +kernel
theorem dX1_commit_10 : decode cX1_commit 10 = .ok (.ireturn, 1) := by decide +kernel
theorem dX1_commit_11 : decode cX1_commit 11 = .ok (.aload_n 0, 1) := by decide +kernel
theorem dX1_commit_12 : decode cX1_commit 12 = .ok (.dup, 1) := by decide +kernel
theorem dX1_commit_13 : decode cX1_commit 13 = .ok (.getfield 60, 3) := by decide +kernel
theorem dX1_commit_16 : decode cX1_commit 16 = .ok (.iconst 1, 1) := by decide +kernel
theorem dX1_commit_17 : decode cX1_commit 17 = .ok (.iadd, 1) := by decide +kernel
theorem dX1_commit_18 : decode cX1_commit 18 = .ok (.putfield 60, 3) := by decide +kernel
theorem dX1_commit_21 : decode cX1_commit 21 = .ok (.iconst 0, 1) := by decide +kernel
theorem dX1_commit_22 : decode cX1_commit 22 = .ok (.istore_n 2, 1) := by decide +kernel
theorem dX1_commit_23 : decode cX1_commit 23 = .ok (.iload_n 2, 1) := by decide +kernel
theorem dX1_commit_24 : decode cX1_commit 24 = .ok (.aload_n 0, 1) := by decide +kernel
theorem dX1_commit_25 : decode cX1_commit 25 = .ok (.getfield 38, 3) := by decide +kernel
theorem dX1_commit_28 : decode cX1_commit 28 = .ok (.if_icmp .ge 47, 3) := by decide +kernel
theorem dX1_commit_31 : decode cX1_commit 31 = .ok (.aload_n 0, 1) := by decide +kernel
theorem dX1_commit_32 : decode cX1_commit 32 = .ok (.getfield 22, 3) := by decide +kernel
theorem dX1_commit_35 : decode cX1_commit 35 = .ok (.iload_n 2, 1) := by decide +kernel
theorem dX1_commit_36 : decode cX1_commit 36 = .ok (.aload_n 0, 1) := by decide +kernel
theorem dX1_commit_37 : decode cX1_commit 37 = .ok (.getfield 19, 3) := by decide +kernel
theorem dX1_commit_40 : decode cX1_commit 40 = .ok (.iload_n 2, 1) := by decide +kernel
theorem dX1_commit_41 : decode cX1_commit 41 = .ok (.iaload, 1) := by decide +kernel
theorem dX1_commit_42 : decode cX1_commit 42 = .ok (.iload_n 1, 1) := by decide +kernel
theorem dX1_commit_43 : decode cX1_commit 43 = .ok (.if_icmp .ne 19, 3) := by decide +kernel
theorem dX1_commit_46 : decode cX1_commit 46 = .ok (.aload_n 0, 1) := by decide +kernel
theorem dX1_commit_47 : decode cX1_commit 47 = .ok (.getfield 22, 3) := by decide +kernel
theorem dX1_commit_50 : decode cX1_commit 50 = .ok (.iload_n 2, 1) := by decide +kernel
theorem dX1_commit_51 : decode cX1_commit 51 = .ok (.iaload, 1) := by decide +kernel
theorem dX1_commit_52 : decode cX1_commit 52 = .ok (.ifCond .ne 10, 3) := by decide +kernel
theorem dX1_commit_55 : decode cX1_commit 55 = .ok (.aload_n 0, 1) := by decide +kernel
theorem dX1_commit_56 : decode cX1_commit 56 = .ok (.getfield 60, 3) := by decide +kernel
theorem dX1_commit_59 : decode cX1_commit 59 = .ok (.goto 9, 3) := by decide +kernel
theorem dX1_commit_62 : decode cX1_commit 62 = .ok (.aload_n 0, 1) := by decide +kernel
theorem dX1_commit_63 : decode cX1_commit 63 = .ok (.getfield 22, 3) := by decide +kernel
theorem dX1_commit_66 : decode cX1_commit 66 = .ok (.iload_n 2, 1) := by decide +kernel
theorem dX1_commit_67 : decode cX1_commit 67 = .ok (.iaload, 1) := by decide +kernel
theorem dX1_commit_68 : decode cX1_commit 68 = .ok (.iastore, 1) := by decide +kernel
theorem dX1_commit_69 : decode cX1_commit 69 = .ok (.iinc 2 1, 3) := by decide +kernel
theorem dX1_commit_72 : decode cX1_commit 72 = .ok (.goto (-49), 3) := by decide +kernel
theorem dX1_commit_75 : decode cX1_commit 75 = .ok (.aload_n 0, 1) := by decide +kernel
theorem dX1_commit_76 : decode cX1_commit 76 = .ok (.iload_n 1, 1) := by decide +kernel
theorem dX1_commit_77 : decode cX1_commit 77 = .ok (.invokevirtual 63, 3) := by decide +kernel
theorem dX1_commit_80 : decode cX1_commit 80 = .ok (.aload_n 0, 1) := by decide +kernel
theorem dX1_commit_81 : decode cX1_commit 81 = .ok (.getfield 60, 3) := by decide +kernel
theorem dX1_commit_84 : decode cX1_commit 84 = .ok (.ireturn, 1) := by decide +kernel
abbrev cX1_changes : ByteArray := prog_3_method_16_code
def yX1_changes : MethodName := ⟨RX1, "changes", "(I)I"⟩
theorem dX1_changes_0 : decode cX1_changes 0 = .ok (.iconst 0, 1) := by decide +kernel
theorem dX1_changes_1 : decode cX1_changes 1 = .ok (.istore_n 2, 1) := by decide +kernel
theorem dX1_changes_2 : decode cX1_changes 2 = .ok (.iconst 0, 1) := by decide +kernel
theorem dX1_changes_3 : decode cX1_changes 3 = .ok (.istore_n 3, 1) := by decide +kernel
theorem dX1_changes_4 : decode cX1_changes 4 = .ok (.iload_n 3, 1) := by decide +kernel
theorem dX1_changes_5 : decode cX1_changes 5 = .ok (.aload_n 0, 1) := by decide +kernel
theorem dX1_changes_6 : decode cX1_changes 6 = .ok (.getfield 38, 3) := by decide +kernel
theorem dX1_changes_9 : decode cX1_changes 9 = .ok (.if_icmp .ge 44, 3) := by decide +kernel
theorem dX1_changes_12 : decode cX1_changes 12 = .ok (.aload_n 0, 1) := by decide +kernel
theorem dX1_changes_13 : decode cX1_changes 13 = .ok (.iload_n 1, 1) := by decide +kernel
theorem dX1_changes_14 : decode cX1_changes 14 = .ok (.invokevirtual 42, 3) := by decide +kernel
theorem dX1_changes_17 : decode cX1_changes 17 = .ok (.ifCond .eq 28, 3) := by decide +kernel
theorem dX1_changes_20 : decode cX1_changes 20 = .ok (.aload_n 0, 1) := by decide +kernel
theorem dX1_changes_21 : decode cX1_changes 21 = .ok (.getfield 19, 3) := by decide +kernel
theorem dX1_changes_24 : decode cX1_changes 24 = .ok (.iload_n 3, 1) := by decide +kernel
theorem dX1_changes_25 : decode cX1_changes 25 = .ok (.iaload, 1) := by decide +kernel
theorem dX1_changes_26 : decode cX1_changes 26 = .ok (.iload_n 1, 1) := by decide +kernel
theorem dX1_changes_27 : decode cX1_changes 27 = .ok (.if_icmp .ne 18, 3) := by decide +kernel
theorem dX1_changes_30 : decode cX1_changes 30 = .ok (.aload_n 0, 1) := by decide +kernel
theorem dX1_changes_31 : decode cX1_changes 31 = .ok (.getfield 22, 3) := by decide +kernel
theorem dX1_changes_34 : decode cX1_changes 34 = .ok (.iload_n 3, 1) := by decide +kernel
theorem dX1_changes_35 : decode cX1_changes 35 = .ok (.iaload, 1) := by decide +kernel
theorem dX1_changes_36 : decode cX1_changes 36 = .ok (.ifCond .ne 9, 3) := by decide +kernel
theorem dX1_changes_39 : decode cX1_changes 39 = .ok (.iload_n 2, 1) := by decide +kernel
theorem dX1_changes_40 : decode cX1_changes 40 = .ok (.iconst 1, 1) := by decide +kernel
theorem dX1_changes_41 : decode cX1_changes 41 = .ok (.iadd, 1) := by decide +kernel
theorem dX1_changes_42 : decode cX1_changes 42 = .ok (.goto 4, 3) := by decide +kernel
theorem dX1_changes_45 : decode cX1_changes 45 = .ok (.iload_n 2, 1) := by decide +kernel
theorem dX1_changes_46 : decode cX1_changes 46 = .ok (.istore_n 2, 1) := by decide +kernel
theorem dX1_changes_47 : decode cX1_changes 47 = .ok (.iinc 3 1, 3) := by decide +kernel
theorem dX1_changes_50 : decode cX1_changes 50 = .ok (.goto (-46), 3) := by decide +kernel
theorem dX1_changes_53 : decode cX1_changes 53 = .ok (.iload_n 2, 1) := by decide +kernel
theorem dX1_changes_54 : decode cX1_changes 54 = .ok (.ireturn, 1) := by decide +kernel
abbrev cX1_release : ByteArray := prog_3_method_6_code
def yX1_release : MethodName := ⟨RX1, "release", "(I)V"⟩
theorem dX1_release_0 : decode cX1_release 0 = .ok (.iconst 0, 1) := by decide +kernel
theorem dX1_release_1 : decode cX1_release 1 = .ok (.istore_n 2, 1) := by decide +kernel
theorem dX1_release_2 : decode cX1_release 2 = .ok (.iload_n 2, 1) := by decide +kernel
theorem dX1_release_3 : decode cX1_release 3 = .ok (.bipush 8, 2) := by decide +kernel
theorem dX1_release_5 : decode cX1_release 5 = .ok (.if_icmp .ge 36, 3) := by decide +kernel
theorem dX1_release_8 : decode cX1_release 8 = .ok (.aload_n 0, 1) := by decide +kernel
theorem dX1_release_9 : decode cX1_release 9 = .ok (.getfield 32, 3) := by decide +kernel
theorem dX1_release_12 : decode cX1_release 12 = .ok (.iload_n 2, 1) := by decide +kernel
theorem dX1_release_13 : decode cX1_release 13 = .ok (.aload_n 0, 1) := by decide +kernel
theorem dX1_release_14 : decode cX1_release 14 = .ok (.getfield 32, 3) := by decide +kernel
theorem dX1_release_17 : decode cX1_release 17 = .ok (.iload_n 2, 1) := by decide +kernel
theorem dX1_release_18 : decode cX1_release 18 = .ok (.iaload, 1) := by decide +kernel
theorem dX1_release_19 : decode cX1_release 19 = .ok (.iload_n 1, 1) := by decide +kernel
theorem dX1_release_20 : decode cX1_release 20 = .ok (.if_icmp .ne 8, 3) := by decide +kernel
theorem dX1_release_23 : decode cX1_release 23 = .ok (.bipush (-4), 2) := by decide +kernel
theorem dX1_release_25 : decode cX1_release 25 = .ok (.goto 9, 3) := by decide +kernel
theorem dX1_release_28 : decode cX1_release 28 = .ok (.aload_n 0, 1) := by decide +kernel
theorem dX1_release_29 : decode cX1_release 29 = .ok (.getfield 32, 3) := by decide +kernel
theorem dX1_release_32 : decode cX1_release 32 = .ok (.iload_n 2, 1) := by decide +kernel
theorem dX1_release_33 : decode cX1_release 33 = .ok (.iaload, 1) := by decide +kernel
theorem dX1_release_34 : decode cX1_release 34 = .ok (.iastore, 1) := by decide +kernel
theorem dX1_release_35 : decode cX1_release 35 = .ok (.iinc 2 1, 3) := by decide +kernel
theorem dX1_release_38 : decode cX1_release 38 = .ok (.goto (-36), 3) := by decide +kernel
theorem dX1_release_41 : decode cX1_release 41 = .ok (.return_, 1) := by decide +kernel
abbrev cX1_rollback : ByteArray := prog_3_method_8_code
def yX1_rollback : MethodName := ⟨RX1, "rollback", "(I)I"⟩
theorem dX1_rollback_0 : decode cX1_rollback 0 = .ok (.aload_n 0, 1) := by decide +kernel
end
section
set_option maxRecDepth 100000
theorem dX1_rollback_1 : decode cX1_rollback 1 = .ok (.iload_n 1, 1) := by decide +kernel
theorem dX1_rollback_2 : decode cX1_rollback 2 = .ok (.invokevirtual 56, 3) := by decide +kernel
theorem dX1_rollback_5 : decode cX1_rollback 5 = .ok (.ifCond .ne 6, 3) := by decide +kernel
theorem dX1_rollback_8 : decode cX1_rollback 8 = .ok (.bipush (-4), 2) := by decide +kernel
theorem dX1_rollback_10 : decode cX1_rollback 10 = .ok (.ireturn, 1) := by decide +kernel
theorem dX1_rollback_11 : decode cX1_rollback 11 = .ok (.aload_n 0, 1) := by decide +kernel
theorem dX1_rollback_12 : decode cX1_rollback 12 = .ok (.getfield 38, 3) := by decide +kernel
theorem dX1_rollback_15 : decode cX1_rollback 15 = .ok (.iconst 1, 1) := by decide +kernel
theorem dX1_rollback_16 : decode cX1_rollback 16 = .ok (.isub, 1) := by decide +kernel
theorem dX1_rollback_17 : decode cX1_rollback 17 = .ok (.istore_n 2, 1) := by decide +kernel
theorem dX1_rollback_18 : decode cX1_rollback 18 = .ok (.iload_n 2, 1) := by decide +kernel
theorem dX1_rollback_19 : decode cX1_rollback 19 = .ok (.ifCond .lt 59, 3) := by decide +kernel
theorem dX1_rollback_22 : decode cX1_rollback 22 = .ok (.aload_n 0, 1) := by decide +kernel
theorem dX1_rollback_23 : decode cX1_rollback 23 = .ok (.getfield 19, 3) := by decide +kernel
theorem dX1_rollback_26 : decode cX1_rollback 26 = .ok (.iload_n 2, 1) := by decide +kernel
theorem dX1_rollback_27 : decode cX1_rollback 27 = .ok (.iaload, 1) := by decide +kernel
theorem dX1_rollback_28 : decode cX1_rollback 28 = .ok (.iload_n 1, 1) := by decide +kernel
theorem dX1_rollback_29 : decode cX1_rollback 29 = .ok (.if_icmp .ne 43, 3) := by decide +kernel
theorem dX1_rollback_32 : decode cX1_rollback 32 = .ok (.aload_n 0, 1) := by decide +kernel
theorem dX1_rollback_33 : decode cX1_rollback 33 = .ok (.getfield 22, 3) := by decide +kernel
theorem dX1_rollback_36 : decode cX1_rollback 36 = .ok (.iload_n 2, 1) := by decide +kernel
theorem dX1_rollback_37 : decode cX1_rollback 37 = .ok (.iaload, 1) := by decide +kernel
theorem dX1_rollback_38 : decode cX1_rollback 38 = .ok (.ifCond .ne 34, 3) := by decide +kernel
theorem dX1_rollback_41 : decode cX1_rollback 41 = .ok (.aload_n 0, 1) := by decide +kernel
theorem dX1_rollback_42 : decode cX1_rollback 42 = .ok (.getfield 29, 3) := by decide +kernel
theorem dX1_rollback_45 : decode cX1_rollback 45 = .ok (.aload_n 0, 1) := by decide +kernel
theorem dX1_rollback_46 : decode cX1_rollback 46 = .ok (.getfield 7, 3) := by decide +kernel
theorem dX1_rollback_49 : decode cX1_rollback 49 = .ok (.iload_n 2, 1) := by decide +kernel
theorem dX1_rollback_50 : decode cX1_rollback 50 = .ok (.iaload, 1) := by decide +kernel
theorem dX1_rollback_51 : decode cX1_rollback 51 = .ok (.aload_n 0, 1) := by decide +kernel
theorem dX1_rollback_52 : decode cX1_rollback 52 = .ok (.getfield 16, 3) := by decide +kernel
theorem dX1_rollback_55 : decode cX1_rollback 55 = .ok (.iload_n 2, 1) := by decide +kernel
theorem dX1_rollback_56 : decode cX1_rollback 56 = .ok (.iaload, 1) := by decide +kernel
theorem dX1_rollback_57 : decode cX1_rollback 57 = .ok (.iastore, 1) := by decide +kernel
theorem dX1_rollback_58 : decode cX1_rollback 58 = .ok (.aload_n 0, 1) := by decide +kernel
theorem dX1_rollback_59 : decode cX1_rollback 59 = .ok (.getfield 22, 3) := by decide +kernel
theorem dX1_rollback_62 : decode cX1_rollback 62 = .ok (.iload_n 2, 1) := by decide +kernel
theorem dX1_rollback_63 : decode cX1_rollback 63 = .ok (.iconst (-1), 1) := by decide +kernel
theorem dX1_rollback_64 : decode cX1_rollback 64 = .ok (.iastore, 1) := by decide +kernel
theorem dX1_rollback_65 : decode cX1_rollback 65 = .ok (.aload_n 0, 1) := by decide +kernel
theorem dX1_rollback_66 : decode cX1_rollback 66 = .ok (.getfield 25, 3) := by decide +kernel
theorem dX1_rollback_69 : decode cX1_rollback 69 = .ok (.iload_n 2, 1) := by decide +kernel
theorem dX1_rollback_70 : decode cX1_rollback 70 = .ok (.iconst 0, 1) := by decide +kernel
theorem dX1_rollback_71 : decode cX1_rollback 71 = .ok (.bastore, 1) := by decide +kernel
theorem dX1_rollback_72 : decode cX1_rollback 72 = .ok (.iinc 2 (-1), 3) := by decide +kernel
theorem dX1_rollback_75 : decode cX1_rollback 75 = .ok (.goto (-57), 3) := by decide +kernel
theorem dX1_rollback_78 : decode cX1_rollback 78 = .ok (.aload_n 0, 1) := by decide +kernel
theorem dX1_rollback_79 : decode cX1_rollback 79 = .ok (.iload_n 1, 1) := by decide +kernel
theorem dX1_rollback_80 : decode cX1_rollback 80 = .ok (.invokevirtual 63, 3) := by decide +kernel
theorem dX1_rollback_83 : decode cX1_rollback 83 = .ok (.iconst 0, 1) := by decide +kernel
theorem dX1_rollback_84 : decode cX1_rollback 84 = .ok (.ireturn, 1) := by decide +kernel
abbrev cX1_clock : ByteArray := prog_3_method_9_code
def yX1_clock : MethodName := ⟨RX1, "clock", "()I"⟩
theorem dX1_clock_0 : decode cX1_clock 0 = .ok (.aload_n 0, 1) := by decide +kernel
theorem dX1_clock_1 : decode cX1_clock 1 = .ok (.getfield 60, 3) := by decide +kernel
theorem dX1_clock_4 : decode cX1_clock 4 = .ok (.ireturn, 1) := by decide +kernel
abbrev cX1_read : ByteArray := prog_3_method_11_code
def yX1_read : MethodName := ⟨RX1, "read", "(III)I"⟩
theorem dX1_read_0 : decode cX1_read 0 = .ok (.aload_n 0, 1) := by decide +kernel
theorem dX1_read_1 : decode cX1_read 1 = .ok (.iload_n 1, 1) := by decide +kernel
theorem dX1_read_2 : decode cX1_read 2 = .ok (.invokevirtual 42, 3) := by decide +kernel
theorem dX1_read_5 : decode cX1_read 5 = .ok (.ifCond .eq 23, 3) := by decide +kernel
theorem dX1_read_8 : decode cX1_read 8 = .ok (.aload_n 0, 1) := by decide +kernel
theorem dX1_read_9 : decode cX1_read 9 = .ok (.iload_n 2, 1) := by decide +kernel
theorem dX1_read_10 : decode cX1_read 10 = .ok (.invokevirtual 46, 3) := by decide +kernel
theorem dX1_read_13 : decode cX1_read 13 = .ok (.ifCond .eq 15, 3) := by decide +kernel
theorem dX1_read_16 : decode cX1_read 16 = .ok (.iload_n 3, 1) := by decide +kernel
theorem dX1_read_17 : decode cX1_read 17 = .ok (.ifCond .lt 11, 3) := by decide +kernel
theorem dX1_read_20 : decode cX1_read 20 = .ok (.iload_n 3, 1) := by decide +kernel
theorem dX1_read_21 : decode cX1_read 21 = .ok (.aload_n 0, 1) := by decide +kernel
theorem dX1_read_22 : decode cX1_read 22 = .ok (.getfield 60, 3) := by decide +kernel
theorem dX1_read_25 : decode cX1_read 25 = .ok (.if_icmp .le 5, 3) := by decide +kernel
theorem dX1_read_28 : decode cX1_read 28 = .ok (.iconst (-1), 1) := by decide +kernel
theorem dX1_read_29 : decode cX1_read 29 = .ok (.ireturn, 1) := by decide +kernel
theorem dX1_read_30 : decode cX1_read 30 = .ok (.aload_n 0, 1) := by decide +kernel
theorem dX1_read_31 : decode cX1_read 31 = .ok (.getfield 32, 3) := by decide +kernel
theorem dX1_read_34 : decode cX1_read 34 = .ok (.iload_n 2, 1) := by decide +kernel
theorem dX1_read_35 : decode cX1_read 35 = .ok (.iaload, 1) := by decide +kernel
theorem dX1_read_36 : decode cX1_read 36 = .ok (.iload_n 1, 1) := by decide +kernel
theorem dX1_read_37 : decode cX1_read 37 = .ok (.if_icmp .ne 10, 3) := by decide +kernel
theorem dX1_read_40 : decode cX1_read 40 = .ok (.aload_n 0, 1) := by decide +kernel
theorem dX1_read_41 : decode cX1_read 41 = .ok (.getfield 29, 3) := by decide +kernel
theorem dX1_read_44 : decode cX1_read 44 = .ok (.iload_n 2, 1) := by decide +kernel
theorem dX1_read_45 : decode cX1_read 45 = .ok (.iaload, 1) := by decide +kernel
theorem dX1_read_46 : decode cX1_read 46 = .ok (.ireturn, 1) := by decide +kernel
theorem dX1_read_47 : decode cX1_read 47 = .ok (.aload_n 0, 1) := by decide +kernel
theorem dX1_read_48 : decode cX1_read 48 = .ok (.getfield 35, 3) := by decide +kernel
theorem dX1_read_51 : decode cX1_read 51 = .ok (.iload_n 2, 1) := by decide +kernel
theorem dX1_read_52 : decode cX1_read 52 = .ok (.iaload, 1) := by decide +kernel
theorem dX1_read_53 : decode cX1_read 53 = .ok (.iload_n 3, 1) := by decide +kernel
theorem dX1_read_54 : decode cX1_read 54 = .ok (.if_icmp .le 8, 3) := by decide +kernel
theorem dX1_read_57 : decode cX1_read 57 = .ok (.ldc 67, 2) := by decide +kernel
theorem dX1_read_59 : decode cX1_read 59 = .ok (.goto 9, 3) := by decide +kernel
theorem dX1_read_62 : decode cX1_read 62 = .ok (.aload_n 0, 1) := by decide +kernel
theorem dX1_read_63 : decode cX1_read 63 = .ok (.iload_n 2, 1) := by decide +kernel
theorem dX1_read_64 : decode cX1_read 64 = .ok (.iload_n 3, 1) := by decide +kernel
theorem dX1_read_65 : decode cX1_read 65 = .ok (.invokevirtual 68, 3) := by decide +kernel
theorem dX1_read_68 : decode cX1_read 68 = .ok (.ireturn, 1) := by decide +kernel
abbrev cX1_valueAt : ByteArray := prog_3_method_10_code
def yX1_valueAt : MethodName := ⟨RX1, "valueAt", "(II)I"⟩
theorem dX1_valueAt_0 : decode cX1_valueAt 0 = .ok (.iconst 0, 1) := by decide +kernel
theorem dX1_valueAt_1 : decode cX1_valueAt 1 = .ok (.istore_n 3, 1) := by decide +kernel
theorem dX1_valueAt_2 : decode cX1_valueAt 2 = .ok (.iconst 0, 1) := by decide +kernel
theorem dX1_valueAt_3 : decode cX1_valueAt 3 = .ok (.istore 4, 2) := by decide +kernel
theorem dX1_valueAt_5 : decode cX1_valueAt 5 = .ok (.iload 4, 2) := by decide +kernel
theorem dX1_valueAt_7 : decode cX1_valueAt 7 = .ok (.aload_n 0, 1) := by decide +kernel
theorem dX1_valueAt_8 : decode cX1_valueAt 8 = .ok (.getfield 38, 3) := by decide +kernel
theorem dX1_valueAt_11 : decode cX1_valueAt 11 = .ok (.if_icmp .ge 53, 3) := by decide +kernel
theorem dX1_valueAt_14 : decode cX1_valueAt 14 = .ok (.aload_n 0, 1) := by decide +kernel
theorem dX1_valueAt_15 : decode cX1_valueAt 15 = .ok (.getfield 7, 3) := by decide +kernel
theorem dX1_valueAt_18 : decode cX1_valueAt 18 = .ok (.iload 4, 2) := by decide +kernel
theorem dX1_valueAt_20 : decode cX1_valueAt 20 = .ok (.iaload, 1) := by decide +kernel
theorem dX1_valueAt_21 : decode cX1_valueAt 21 = .ok (.iload_n 1, 1) := by decide +kernel
theorem dX1_valueAt_22 : decode cX1_valueAt 22 = .ok (.if_icmp .ne 34, 3) := by decide +kernel
theorem dX1_valueAt_25 : decode cX1_valueAt 25 = .ok (.aload_n 0, 1) := by decide +kernel
theorem dX1_valueAt_26 : decode cX1_valueAt 26 = .ok (.getfield 22, 3) := by decide +kernel
theorem dX1_valueAt_29 : decode cX1_valueAt 29 = .ok (.iload 4, 2) := by decide +kernel
theorem dX1_valueAt_31 : decode cX1_valueAt 31 = .ok (.iaload, 1) := by decide +kernel
theorem dX1_valueAt_32 : decode cX1_valueAt 32 = .ok (.ifCond .le 24, 3) := by decide +kernel
theorem dX1_valueAt_35 : decode cX1_valueAt 35 = .ok (.aload_n 0, 1) := by decide +kernel
theorem dX1_valueAt_36 : decode cX1_valueAt 36 = .ok (.getfield 22, 3) := by decide +kernel
theorem dX1_valueAt_39 : decode cX1_valueAt 39 = .ok (.iload 4, 2) := by decide +kernel
theorem dX1_valueAt_41 : decode cX1_valueAt 41 = .ok (.iaload, 1) := by decide +kernel
theorem dX1_valueAt_42 : decode cX1_valueAt 42 = .ok (.iload_n 2, 1) := by decide +kernel
theorem dX1_valueAt_43 : decode cX1_valueAt 43 = .ok (.if_icmp .gt 13, 3) := by decide +kernel
theorem dX1_valueAt_46 : decode cX1_valueAt 46 = .ok (.aload_n 0, 1) := by decide +kernel
theorem dX1_valueAt_47 : decode cX1_valueAt 47 = .ok (.getfield 13, 3) := by decide +kernel
theorem dX1_valueAt_50 : decode cX1_valueAt 50 = .ok (.iload 4, 2) := by decide +kernel
theorem dX1_valueAt_52 : decode cX1_valueAt 52 = .ok (.iaload, 1) := by decide +kernel
theorem dX1_valueAt_53 : decode cX1_valueAt 53 = .ok (.goto 4, 3) := by decide +kernel
theorem dX1_valueAt_56 : decode cX1_valueAt 56 = .ok (.iload_n 3, 1) := by decide +kernel
theorem dX1_valueAt_57 : decode cX1_valueAt 57 = .ok (.istore_n 3, 1) := by decide +kernel
theorem dX1_valueAt_58 : decode cX1_valueAt 58 = .ok (.iinc 4 1, 3) := by decide +kernel
theorem dX1_valueAt_61 : decode cX1_valueAt 61 = .ok (.goto (-56), 3) := by decide +kernel
theorem dX1_valueAt_64 : decode cX1_valueAt 64 = .ok (.iload_n 3, 1) := by decide +kernel
theorem dX1_valueAt_65 : decode cX1_valueAt 65 = .ok (.ireturn, 1) := by decide +kernel
abbrev cX1_raw : ByteArray := prog_3_method_12_code
def yX1_raw : MethodName := ⟨RX1, "raw", "(I)I"⟩
theorem dX1_raw_0 : decode cX1_raw 0 = .ok (.aload_n 0, 1) := by decide +kernel
theorem dX1_raw_1 : decode cX1_raw 1 = .ok (.iload_n 1, 1) := by decide +kernel
theorem dX1_raw_2 : decode cX1_raw 2 = .ok (.invokevirtual 46, 3) := by decide +kernel
theorem dX1_raw_5 : decode cX1_raw 5 = .ok (.ifCond .eq 12, 3) := by decide +kernel
theorem dX1_raw_8 : decode cX1_raw 8 = .ok (.aload_n 0, 1) := by decide +kernel
theorem dX1_raw_9 : decode cX1_raw 9 = .ok (.getfield 29, 3) := by decide +kernel
theorem dX1_raw_12 : decode cX1_raw 12 = .ok (.iload_n 1, 1) := by decide +kernel
theorem dX1_raw_13 : decode cX1_raw 13 = .ok (.iaload, 1) := by decide +kernel
theorem dX1_raw_14 : decode cX1_raw 14 = .ok (.goto 4, 3) := by decide +kernel
theorem dX1_raw_17 : decode cX1_raw 17 = .ok (.iconst 0, 1) := by decide +kernel
theorem dX1_raw_18 : decode cX1_raw 18 = .ok (.ireturn, 1) := by decide +kernel
abbrev cX1_holder : ByteArray := prog_3_method_13_code
def yX1_holder : MethodName := ⟨RX1, "holder", "(I)I"⟩
theorem dX1_holder_0 : decode cX1_holder 0 = .ok (.aload_n 0, 1) := by decide +kernel
theorem dX1_holder_1 : decode cX1_holder 1 = .ok (.iload_n 1, 1) := by decide +kernel
theorem dX1_holder_2 : decode cX1_holder 2 = .ok (.invokevirtual 46, 3) := by decide +kernel
theorem dX1_holder_5 : decode cX1_holder 5 = .ok (.ifCond .eq 12, 3) := by decide +kernel
theorem dX1_holder_8 : decode cX1_holder 8 = .ok (.aload_n 0, 1) := by decide +kernel
theorem dX1_holder_9 : decode cX1_holder 9 = .ok (.getfield 32, 3) := by decide +kernel
theorem dX1_holder_12 : decode cX1_holder 12 = .ok (.iload_n 1, 1) := by decide +kernel
theorem dX1_holder_13 : decode cX1_holder 13 = .ok (.iaload, 1) := by decide +kernel
theorem dX1_holder_14 : decode cX1_holder 14 = .ok (.goto 5, 3) := by decide +kernel
theorem dX1_holder_17 : decode cX1_holder 17 = .ok (.bipush (-4), 2) := by decide +kernel
theorem dX1_holder_19 : decode cX1_holder 19 = .ok (.ireturn, 1) := by decide +kernel
abbrev cX1_locks : ByteArray := prog_3_method_14_code
def yX1_locks : MethodName := ⟨RX1, "locks", "(I)I"⟩
theorem dX1_locks_0 : decode cX1_locks 0 = .ok (.iconst 0, 1) := by decide +kernel
theorem dX1_locks_1 : decode cX1_locks 1 = .ok (.istore_n 2, 1) := by decide +kernel
theorem dX1_locks_2 : decode cX1_locks 2 = .ok (.iconst 0, 1) := by decide +kernel
theorem dX1_locks_3 : decode cX1_locks 3 = .ok (.istore_n 3, 1) := by decide +kernel
theorem dX1_locks_4 : decode cX1_locks 4 = .ok (.iload_n 3, 1) := by decide +kernel
theorem dX1_locks_5 : decode cX1_locks 5 = .ok (.bipush 8, 2) := by decide +kernel
theorem dX1_locks_7 : decode cX1_locks 7 = .ok (.if_icmp .ge 37, 3) := by decide +kernel
theorem dX1_locks_10 : decode cX1_locks 10 = .ok (.aload_n 0, 1) := by decide +kernel
theorem dX1_locks_11 : decode cX1_locks 11 = .ok (.iload_n 1, 1) := by decide +kernel
theorem dX1_locks_12 : decode cX1_locks 12 = .ok (.invokevirtual 42, 3) := by decide +kernel
theorem dX1_locks_15 : decode cX1_locks 15 = .ok (.ifCond .eq 21, 3) := by decide +kernel
theorem dX1_locks_18 : decode cX1_locks 18 = .ok (.aload_n 0, 1) := by decide +kernel
theorem dX1_locks_19 : decode cX1_locks 19 = .ok (.getfield 32, 3) := by decide +kernel
theorem dX1_locks_22 : decode cX1_locks 22 = .ok (.iload_n 3, 1) := by decide +kernel
theorem dX1_locks_23 : decode cX1_locks 23 = .ok (.iaload, 1) := by decide +kernel
theorem dX1_locks_24 : decode cX1_locks 24 = .ok (.iload_n 1, 1) := by decide +kernel
theorem dX1_locks_25 : decode cX1_locks 25 = .ok (.if_icmp .ne 11, 3) := by decide +kernel
theorem dX1_locks_28 : decode cX1_locks 28 = .ok (.iload_n 2, 1) := by decide +kernel
theorem dX1_locks_29 : decode cX1_locks 29 = .ok (.iconst 1, 1) := by decide +kernel
theorem dX1_locks_30 : decode cX1_locks 30 = .ok (.iload_n 3, 1) := by decide +kernel
theorem dX1_locks_31 : decode cX1_locks 31 = .ok (.ishl, 1) := by decide +kernel
theorem dX1_locks_32 : decode cX1_locks 32 = .ok (.ior, 1) := by decide +kernel
theorem dX1_locks_33 : decode cX1_locks 33 = .ok (.goto 4, 3) := by decide +kernel
theorem dX1_locks_36 : decode cX1_locks 36 = .ok (.iload_n 2, 1) := by decide +kernel
theorem dX1_locks_37 : decode cX1_locks 37 = .ok (.istore_n 2, 1) := by decide +kernel
theorem dX1_locks_38 : decode cX1_locks 38 = .ok (.iinc 3 1, 3) := by decide +kernel
theorem dX1_locks_41 : decode cX1_locks 41 = .ok (.goto (-37), 3) := by decide +kernel
theorem dX1_locks_44 : decode cX1_locks 44 = .ok (.iload_n 2, 1) := by decide +kernel
theorem dX1_locks_45 : decode cX1_locks 45 = .ok (.ireturn, 1) := by decide +kernel
abbrev cX1_oldest : ByteArray := prog_3_method_17_code
def yX1_oldest : MethodName := ⟨RX1, "oldest", "(I)I"⟩
theorem dX1_oldest_0 : decode cX1_oldest 0 = .ok (.aload_n 0, 1) := by decide +kernel
theorem dX1_oldest_1 : decode cX1_oldest 1 = .ok (.iload_n 1, 1) := by decide +kernel
theorem dX1_oldest_2 : decode cX1_oldest 2 = .ok (.invokevirtual 46, 3) := by decide +kernel
theorem dX1_oldest_5 : decode cX1_oldest 5 = .ok (.ifCond .eq 12, 3) := by decide +kernel
theorem dX1_oldest_8 : decode cX1_oldest 8 = .ok (.aload_n 0, 1) := by decide +kernel
theorem dX1_oldest_9 : decode cX1_oldest 9 = .ok (.getfield 35, 3) := by decide +kernel
theorem dX1_oldest_12 : decode cX1_oldest 12 = .ok (.iload_n 1, 1) := by decide +kernel
theorem dX1_oldest_13 : decode cX1_oldest 13 = .ok (.iaload, 1) := by decide +kernel
theorem dX1_oldest_14 : decode cX1_oldest 14 = .ok (.goto 4, 3) := by decide +kernel
theorem dX1_oldest_17 : decode cX1_oldest 17 = .ok (.iconst (-1), 1) := by decide +kernel
theorem dX1_oldest_18 : decode cX1_oldest 18 = .ok (.ireturn, 1) := by decide +kernel
abbrev cX1_changedSince : ByteArray := prog_3_method_18_code
def yX1_changedSince : MethodName := ⟨RX1, "changedSince", "(I)I"⟩
theorem dX1_changedSince_0 : decode cX1_changedSince 0 = .ok (.iconst 0, 1) := by decide +kernel
theorem dX1_changedSince_1 : decode cX1_changedSince 1 = .ok (.istore_n 2, 1) := by decide +kernel
theorem dX1_changedSince_2 : decode cX1_changedSince 2 = .ok (.iconst 0, 1) := by decide +kernel
theorem dX1_changedSince_3 : decode cX1_changedSince 3 = .ok (.istore_n 3, 1) := by decide +kernel
theorem dX1_changedSince_4 : decode cX1_changedSince 4 = .ok (.iload_n 3, 1) := by decide +kernel
theorem dX1_changedSince_5 : decode cX1_changedSince 5 = .ok (.bipush 8, 2) := by decide +kernel
theorem dX1_changedSince_7 : decode cX1_changedSince 7 = .ok (.if_icmp .ge 59, 3) := by decide +kernel
theorem dX1_changedSince_10 : decode cX1_changedSince 10 = .ok (.iload_n 1, 1) := by decide +kernel
theorem dX1_changedSince_11 : decode cX1_changedSince 11 = .ok (.ifCond .lt 55, 3) := by decide +kernel
theorem dX1_changedSince_14 : decode cX1_changedSince 14 = .ok (.iload_n 1, 1) := by decide +kernel
theorem dX1_changedSince_15 : decode cX1_changedSince 15 = .ok (.aload_n 0, 1) := by decide +kernel
theorem dX1_changedSince_16 : decode cX1_changedSince 16 = .ok (.getfield 60, 3) := by decide +kernel
theorem dX1_changedSince_19 : decode cX1_changedSince 19 = .ok (.if_icmp .gt 47, 3) := by decide +kernel
theorem dX1_changedSince_22 : decode cX1_changedSince 22 = .ok (.aload_n 0, 1) := by decide +kernel
theorem dX1_changedSince_23 : decode cX1_changedSince 23 = .ok (.getfield 35, 3) := by decide +kernel
theorem dX1_changedSince_26 : decode cX1_changedSince 26 = .ok (.iload_n 3, 1) := by decide +kernel
theorem dX1_changedSince_27 : decode cX1_changedSince 27 = .ok (.iaload, 1) := by decide +kernel
theorem dX1_changedSince_28 : decode cX1_changedSince 28 = .ok (.iload_n 1, 1) := by decide +kernel
theorem dX1_changedSince_29 : decode cX1_changedSince 29 = .ok (.if_icmp .gt 29, 3) := by decide +kernel
theorem dX1_changedSince_32 : decode cX1_changedSince 32 = .ok (.aload_n 0, 1) := by decide +kernel
theorem dX1_changedSince_33 : decode cX1_changedSince 33 = .ok (.iload_n 3, 1) := by decide +kernel
theorem dX1_changedSince_34 : decode cX1_changedSince 34 = .ok (.iload_n 1, 1) := by decide +kernel
theorem dX1_changedSince_35 : decode cX1_changedSince 35 = .ok (.invokevirtual 68, 3) := by decide +kernel
theorem dX1_changedSince_38 : decode cX1_changedSince 38 = .ok (.aload_n 0, 1) := by decide +kernel
theorem dX1_changedSince_39 : decode cX1_changedSince 39 = .ok (.iload_n 3, 1) := by decide +kernel
theorem dX1_changedSince_40 : decode cX1_changedSince 40 = .ok (.aload_n 0, 1) := by decide +kernel
theorem dX1_changedSince_41 : decode cX1_changedSince 41 = .ok (.getfield 60, 3) := by decide +kernel
theorem dX1_changedSince_44 : decode cX1_changedSince 44 = .ok (.invokevirtual 68, 3) := by decide +kernel
theorem dX1_changedSince_47 : decode cX1_changedSince 47 = .ok (.if_icmp .eq 11, 3) := by decide +kernel
theorem dX1_changedSince_50 : decode cX1_changedSince 50 = .ok (.iload_n 2, 1) := by decide +kernel
theorem dX1_changedSince_51 : decode cX1_changedSince 51 = .ok (.iconst 1, 1) := by decide +kernel
theorem dX1_changedSince_52 : decode cX1_changedSince 52 = .ok (.iload_n 3, 1) := by decide +kernel
theorem dX1_changedSince_53 : decode cX1_changedSince 53 = .ok (.ishl, 1) := by decide +kernel
theorem dX1_changedSince_54 : decode cX1_changedSince 54 = .ok (.ior, 1) := by decide +kernel
theorem dX1_changedSince_55 : decode cX1_changedSince 55 = .ok (.goto 4, 3) := by decide +kernel
theorem dX1_changedSince_58 : decode cX1_changedSince 58 = .ok (.iload_n 2, 1) := by decide +kernel
theorem dX1_changedSince_59 : decode cX1_changedSince 59 = .ok (.istore_n 2, 1) := by decide +kernel
theorem dX1_changedSince_60 : decode cX1_changedSince 60 = .ok (.iinc 3 1, 3) := by decide +kernel
theorem dX1_changedSince_63 : decode cX1_changedSince 63 = .ok (.goto (-59), 3) := by decide +kernel
theorem dX1_changedSince_66 : decode cX1_changedSince 66 = .ok (.iload_n 2, 1) := by decide +kernel
theorem dX1_changedSince_67 : decode cX1_changedSince 67 = .ok (.ireturn, 1) := by decide +kernel
theorem q16 : (Jvm.Cond.initialized "UndoReaderModel") ∈ lw_all := lw_g (lw_at lw_m1 2 rfl) rfl
theorem q174 : (Jvm.Cond.instantiable "UndoReaderModel" (11 : Nat)) ∈ lw_all := lw_g (lw_at lw_m1 160 rfl) rfl
theorem q176 : (Jvm.Cond.instanceMethod ({ cls := "UndoReaderModel", name := "<init>", desc := "()V" } : Jvm.MethodName)) ∈ lw_all := lw_g (lw_at lw_m1 162 rfl) rfl
theorem q177 : (Jvm.Cond.code ({ cls := "UndoReaderModel", name := "<init>", desc := "()V" } : Jvm.MethodName) prog_3_method_1_code (2 : Nat) (Option.none : Option Jvm.ClassFile.FieldType)) ∈ lw_all := lw_g (lw_at lw_m1 163 rfl) rfl
theorem q178 : (Jvm.Cond.methodLink "UndoReaderModel" (1 : Nat) ({ cls := "java/lang/Object", name := "<init>", desc := "()V" } : Jvm.MethodName)) ∈ lw_all := lw_g (lw_at lw_m1 164 rfl) rfl
theorem q179 : (Jvm.Cond.fieldLink "UndoReaderModel" (38 : Nat) "UndoReaderModel" "size" "I") ∈ lw_all := lw_g (lw_at lw_m1 165 rfl) rfl
theorem q180 : (Jvm.Cond.fieldLink "UndoReaderModel" (7 : Nat) "UndoReaderModel" "row" "[I") ∈ lw_all := lw_g (lw_at lw_m1 166 rfl) rfl
theorem q181 : (Jvm.Cond.fieldLink "UndoReaderModel" (13 : Nat) "UndoReaderModel" "value" "[I") ∈ lw_all := lw_g (lw_at lw_m1 167 rfl) rfl
theorem q182 : (Jvm.Cond.fieldLink "UndoReaderModel" (16 : Nat) "UndoReaderModel" "before" "[I") ∈ lw_all := lw_g (lw_at lw_m1 168 rfl) rfl
theorem q183 : (Jvm.Cond.fieldLink "UndoReaderModel" (19 : Nat) "UndoReaderModel" "who" "[I") ∈ lw_all := lw_g (lw_at lw_m1 169 rfl) rfl
theorem q184 : (Jvm.Cond.fieldLink "UndoReaderModel" (22 : Nat) "UndoReaderModel" "number" "[I") ∈ lw_all := lw_g (lw_at lw_m1 170 rfl) rfl
theorem q185 : (Jvm.Cond.fieldLink "UndoReaderModel" (25 : Nat) "UndoReaderModel" "kept" "[Z") ∈ lw_all := lw_g (lw_at lw_m1 171 rfl) rfl
theorem q186 : (Jvm.Cond.fieldLink "UndoReaderModel" (60 : Nat) "UndoReaderModel" "time" "I") ∈ lw_all := lw_g (lw_at lw_m1 172 rfl) rfl
theorem q187 : (Jvm.Cond.fieldLink "UndoReaderModel" (29 : Nat) "UndoReaderModel" "now" "[I") ∈ lw_all := lw_g (lw_at lw_m1 173 rfl) rfl
theorem q188 : (Jvm.Cond.fieldLink "UndoReaderModel" (32 : Nat) "UndoReaderModel" "lock" "[I") ∈ lw_all := lw_g (lw_at lw_m1 174 rfl) rfl
theorem q189 : (Jvm.Cond.fieldLink "UndoReaderModel" (35 : Nat) "UndoReaderModel" "gone" "[I") ∈ lw_all := lw_g (lw_at lw_m1 175 rfl) rfl
theorem q190 : (Jvm.Cond.lays "UndoReaderModel" "UndoReaderModel" "size" "I") ∈ lw_all := lw_g (lw_at lw_m1 176 rfl) rfl
theorem q191 : (Jvm.Cond.soleField "UndoReaderModel" "size") ∈ lw_all := lw_g (lw_at lw_m1 177 rfl) rfl
theorem q192 : (Jvm.Cond.lays "UndoReaderModel" "UndoReaderModel" "row" "[I") ∈ lw_all := lw_g (lw_at lw_m1 178 rfl) rfl
theorem q193 : (Jvm.Cond.soleField "UndoReaderModel" "row") ∈ lw_all := lw_g (lw_at lw_m1 179 rfl) rfl
theorem q194 : (Jvm.Cond.lays "UndoReaderModel" "UndoReaderModel" "value" "[I") ∈ lw_all := lw_g (lw_at lw_m1 180 rfl) rfl
theorem q195 : (Jvm.Cond.soleField "UndoReaderModel" "value") ∈ lw_all := lw_g (lw_at lw_m1 181 rfl) rfl
theorem q196 : (Jvm.Cond.lays "UndoReaderModel" "UndoReaderModel" "before" "[I") ∈ lw_all := lw_g (lw_at lw_m1 182 rfl) rfl
theorem q197 : (Jvm.Cond.soleField "UndoReaderModel" "before") ∈ lw_all := lw_g (lw_at lw_m1 183 rfl) rfl
theorem q198 : (Jvm.Cond.lays "UndoReaderModel" "UndoReaderModel" "who" "[I") ∈ lw_all := lw_g (lw_at lw_m1 184 rfl) rfl
theorem q199 : (Jvm.Cond.soleField "UndoReaderModel" "who") ∈ lw_all := lw_g (lw_at lw_m1 185 rfl) rfl
theorem q200 : (Jvm.Cond.lays "UndoReaderModel" "UndoReaderModel" "number" "[I") ∈ lw_all := lw_g (lw_at lw_m1 186 rfl) rfl
theorem q201 : (Jvm.Cond.soleField "UndoReaderModel" "number") ∈ lw_all := lw_g (lw_at lw_m1 187 rfl) rfl
theorem q202 : (Jvm.Cond.lays "UndoReaderModel" "UndoReaderModel" "kept" "[Z") ∈ lw_all := lw_g (lw_at lw_m1 188 rfl) rfl
theorem q203 : (Jvm.Cond.soleField "UndoReaderModel" "kept") ∈ lw_all := lw_g (lw_at lw_m1 189 rfl) rfl
theorem q204 : (Jvm.Cond.lays "UndoReaderModel" "UndoReaderModel" "time" "I") ∈ lw_all := lw_g (lw_at lw_m1 190 rfl) rfl
theorem q205 : (Jvm.Cond.soleField "UndoReaderModel" "time") ∈ lw_all := lw_g (lw_at lw_m1 191 rfl) rfl
theorem q206 : (Jvm.Cond.lays "UndoReaderModel" "UndoReaderModel" "now" "[I") ∈ lw_all := lw_g (lw_at lw_m1 192 rfl) rfl
theorem q207 : (Jvm.Cond.soleField "UndoReaderModel" "now") ∈ lw_all := lw_g (lw_at lw_m1 193 rfl) rfl
theorem q208 : (Jvm.Cond.lays "UndoReaderModel" "UndoReaderModel" "lock" "[I") ∈ lw_all := lw_g (lw_at lw_m1 194 rfl) rfl
theorem q209 : (Jvm.Cond.soleField "UndoReaderModel" "lock") ∈ lw_all := lw_g (lw_at lw_m1 195 rfl) rfl
theorem q210 : (Jvm.Cond.lays "UndoReaderModel" "UndoReaderModel" "gone" "[I") ∈ lw_all := lw_g (lw_at lw_m1 196 rfl) rfl
theorem q211 : (Jvm.Cond.soleField "UndoReaderModel" "gone") ∈ lw_all := lw_g (lw_at lw_m1 197 rfl) rfl
theorem q212 : (Jvm.Cond.superclass "UndoReaderModel" "java/lang/Object") ∈ lw_all := lw_g (lw_at lw_m1 198 rfl) rfl
theorem q215 : (Jvm.Cond.instanceMethod ({ cls := "UndoReaderModel", name := "change", desc := "(III)I" } : Jvm.MethodName)) ∈ lw_all := lw_g (lw_at lw_m1 201 rfl) rfl
theorem q216 : (Jvm.Cond.selects "UndoReaderModel" ({ cls := "UndoReaderModel", name := "change", desc := "(III)I" } : Jvm.MethodName) ({ cls := "UndoReaderModel", name := "change", desc := "(III)I" } : Jvm.MethodName)) ∈ lw_all := lw_g (lw_at lw_m1 202 rfl) rfl
theorem q217 : (Jvm.Cond.code ({ cls := "UndoReaderModel", name := "change", desc := "(III)I" } : Jvm.MethodName) prog_3_method_5_code (6 : Nat) (Option.some Jvm.ClassFile.FieldType.int)) ∈ lw_all := lw_g (lw_at lw_m1 203 rfl) rfl
theorem q218 : (Jvm.Cond.methodLink "UndoReaderModel" (42 : Nat) ({ cls := "UndoReaderModel", name := "session", desc := "(I)Z" } : Jvm.MethodName)) ∈ lw_all := lw_g (lw_at lw_m1 204 rfl) rfl
theorem q219 : (Jvm.Cond.privateMethod ({ cls := "UndoReaderModel", name := "session", desc := "(I)Z" } : Jvm.MethodName)) ∈ lw_tbl := lw_at lw_m1 205 rfl
theorem q220 : (Jvm.Cond.instanceMethod ({ cls := "UndoReaderModel", name := "session", desc := "(I)Z" } : Jvm.MethodName)) ∈ lw_all := lw_g (lw_at lw_m1 206 rfl) rfl
theorem q221 : (Jvm.Cond.code ({ cls := "UndoReaderModel", name := "session", desc := "(I)Z" } : Jvm.MethodName) prog_3_method_2_code (2 : Nat) (Option.some Jvm.ClassFile.FieldType.boolean)) ∈ lw_all := lw_g (lw_at lw_m1 207 rfl) rfl
theorem q222 : (Jvm.Cond.methodLink "UndoReaderModel" (46 : Nat) ({ cls := "UndoReaderModel", name := "isRow", desc := "(I)Z" } : Jvm.MethodName)) ∈ lw_all := lw_g (lw_at lw_m1 208 rfl) rfl
theorem q223 : (Jvm.Cond.privateMethod ({ cls := "UndoReaderModel", name := "isRow", desc := "(I)Z" } : Jvm.MethodName)) ∈ lw_tbl := lw_at lw_m1 209 rfl
theorem q224 : (Jvm.Cond.instanceMethod ({ cls := "UndoReaderModel", name := "isRow", desc := "(I)Z" } : Jvm.MethodName)) ∈ lw_all := lw_g (lw_at lw_m1 210 rfl) rfl
theorem q225 : (Jvm.Cond.code ({ cls := "UndoReaderModel", name := "isRow", desc := "(I)Z" } : Jvm.MethodName) prog_3_method_3_code (2 : Nat) (Option.some Jvm.ClassFile.FieldType.boolean)) ∈ lw_all := lw_g (lw_at lw_m1 211 rfl) rfl
theorem q226 : (Jvm.Cond.methodLink "UndoReaderModel" (49 : Nat) ({ cls := "UndoReaderModel", name := "remembered", desc := "()I" } : Jvm.MethodName)) ∈ lw_all := lw_g (lw_at lw_m1 212 rfl) rfl
theorem q227 : (Jvm.Cond.instanceMethod ({ cls := "UndoReaderModel", name := "remembered", desc := "()I" } : Jvm.MethodName)) ∈ lw_all := lw_g (lw_at lw_m1 213 rfl) rfl
theorem q228 : (Jvm.Cond.selects "UndoReaderModel" ({ cls := "UndoReaderModel", name := "remembered", desc := "()I" } : Jvm.MethodName) ({ cls := "UndoReaderModel", name := "remembered", desc := "()I" } : Jvm.MethodName)) ∈ lw_all := lw_g (lw_at lw_m1 214 rfl) rfl
theorem q229 : (Jvm.Cond.code ({ cls := "UndoReaderModel", name := "remembered", desc := "()I" } : Jvm.MethodName) prog_3_method_15_code (3 : Nat) (Option.some Jvm.ClassFile.FieldType.int)) ∈ lw_all := lw_g (lw_at lw_m1 215 rfl) rfl
theorem q230 : (Jvm.Cond.methodLink "UndoReaderModel" (53 : Nat) ({ cls := "UndoReaderModel", name := "oldestKept", desc := "()I" } : Jvm.MethodName)) ∈ lw_all := lw_g (lw_at lw_m1 216 rfl) rfl
theorem q231 : (Jvm.Cond.privateMethod ({ cls := "UndoReaderModel", name := "oldestKept", desc := "()I" } : Jvm.MethodName)) ∈ lw_tbl := lw_at lw_m1 217 rfl
theorem q232 : (Jvm.Cond.instanceMethod ({ cls := "UndoReaderModel", name := "oldestKept", desc := "()I" } : Jvm.MethodName)) ∈ lw_all := lw_g (lw_at lw_m1 218 rfl) rfl
theorem q233 : (Jvm.Cond.code ({ cls := "UndoReaderModel", name := "oldestKept", desc := "()I" } : Jvm.MethodName) prog_3_method_4_code (2 : Nat) (Option.some Jvm.ClassFile.FieldType.int)) ∈ lw_all := lw_g (lw_at lw_m1 219 rfl) rfl
theorem q235 : (Jvm.Cond.instanceMethod ({ cls := "UndoReaderModel", name := "commit", desc := "(I)I" } : Jvm.MethodName)) ∈ lw_all := lw_g (lw_at lw_m1 221 rfl) rfl
theorem q236 : (Jvm.Cond.selects "UndoReaderModel" ({ cls := "UndoReaderModel", name := "commit", desc := "(I)I" } : Jvm.MethodName) ({ cls := "UndoReaderModel", name := "commit", desc := "(I)I" } : Jvm.MethodName)) ∈ lw_all := lw_g (lw_at lw_m1 222 rfl) rfl
theorem q237 : (Jvm.Cond.code ({ cls := "UndoReaderModel", name := "commit", desc := "(I)I" } : Jvm.MethodName) prog_3_method_7_code (3 : Nat) (Option.some Jvm.ClassFile.FieldType.int)) ∈ lw_all := lw_g (lw_at lw_m1 223 rfl) rfl
theorem q238 : (Jvm.Cond.methodLink "UndoReaderModel" (56 : Nat) ({ cls := "UndoReaderModel", name := "changes", desc := "(I)I" } : Jvm.MethodName)) ∈ lw_all := lw_g (lw_at lw_m1 224 rfl) rfl
theorem q239 : (Jvm.Cond.instanceMethod ({ cls := "UndoReaderModel", name := "changes", desc := "(I)I" } : Jvm.MethodName)) ∈ lw_all := lw_g (lw_at lw_m1 225 rfl) rfl
theorem q240 : (Jvm.Cond.selects "UndoReaderModel" ({ cls := "UndoReaderModel", name := "changes", desc := "(I)I" } : Jvm.MethodName) ({ cls := "UndoReaderModel", name := "changes", desc := "(I)I" } : Jvm.MethodName)) ∈ lw_all := lw_g (lw_at lw_m1 226 rfl) rfl
theorem q241 : (Jvm.Cond.code ({ cls := "UndoReaderModel", name := "changes", desc := "(I)I" } : Jvm.MethodName) prog_3_method_16_code (4 : Nat) (Option.some Jvm.ClassFile.FieldType.int)) ∈ lw_all := lw_g (lw_at lw_m1 227 rfl) rfl
theorem q242 : (Jvm.Cond.methodLink "UndoReaderModel" (63 : Nat) ({ cls := "UndoReaderModel", name := "release", desc := "(I)V" } : Jvm.MethodName)) ∈ lw_all := lw_g (lw_at lw_m1 228 rfl) rfl
theorem q243 : (Jvm.Cond.privateMethod ({ cls := "UndoReaderModel", name := "release", desc := "(I)V" } : Jvm.MethodName)) ∈ lw_tbl := lw_at lw_m1 229 rfl
theorem q244 : (Jvm.Cond.instanceMethod ({ cls := "UndoReaderModel", name := "release", desc := "(I)V" } : Jvm.MethodName)) ∈ lw_all := lw_g (lw_at lw_m1 230 rfl) rfl
theorem q245 : (Jvm.Cond.code ({ cls := "UndoReaderModel", name := "release", desc := "(I)V" } : Jvm.MethodName) prog_3_method_6_code (3 : Nat) (Option.none : Option Jvm.ClassFile.FieldType)) ∈ lw_all := lw_g (lw_at lw_m1 231 rfl) rfl
theorem q247 : (Jvm.Cond.instanceMethod ({ cls := "UndoReaderModel", name := "rollback", desc := "(I)I" } : Jvm.MethodName)) ∈ lw_all := lw_g (lw_at lw_m1 233 rfl) rfl
theorem q248 : (Jvm.Cond.selects "UndoReaderModel" ({ cls := "UndoReaderModel", name := "rollback", desc := "(I)I" } : Jvm.MethodName) ({ cls := "UndoReaderModel", name := "rollback", desc := "(I)I" } : Jvm.MethodName)) ∈ lw_all := lw_g (lw_at lw_m1 234 rfl) rfl
theorem q249 : (Jvm.Cond.code ({ cls := "UndoReaderModel", name := "rollback", desc := "(I)I" } : Jvm.MethodName) prog_3_method_8_code (3 : Nat) (Option.some Jvm.ClassFile.FieldType.int)) ∈ lw_all := lw_g (lw_at lw_m1 235 rfl) rfl
theorem q251 : (Jvm.Cond.instanceMethod ({ cls := "UndoReaderModel", name := "clock", desc := "()I" } : Jvm.MethodName)) ∈ lw_all := lw_g (lw_at lw_m1 237 rfl) rfl
theorem q252 : (Jvm.Cond.selects "UndoReaderModel" ({ cls := "UndoReaderModel", name := "clock", desc := "()I" } : Jvm.MethodName) ({ cls := "UndoReaderModel", name := "clock", desc := "()I" } : Jvm.MethodName)) ∈ lw_all := lw_g (lw_at lw_m1 238 rfl) rfl
theorem q253 : (Jvm.Cond.code ({ cls := "UndoReaderModel", name := "clock", desc := "()I" } : Jvm.MethodName) prog_3_method_9_code (1 : Nat) (Option.some Jvm.ClassFile.FieldType.int)) ∈ lw_all := lw_g (lw_at lw_m1 239 rfl) rfl
theorem q255 : (Jvm.Cond.instanceMethod ({ cls := "UndoReaderModel", name := "read", desc := "(III)I" } : Jvm.MethodName)) ∈ lw_all := lw_g (lw_at lw_m2 1 rfl) rfl
theorem q256 : (Jvm.Cond.selects "UndoReaderModel" ({ cls := "UndoReaderModel", name := "read", desc := "(III)I" } : Jvm.MethodName) ({ cls := "UndoReaderModel", name := "read", desc := "(III)I" } : Jvm.MethodName)) ∈ lw_all := lw_g (lw_at lw_m2 2 rfl) rfl
theorem q257 : (Jvm.Cond.code ({ cls := "UndoReaderModel", name := "read", desc := "(III)I" } : Jvm.MethodName) prog_3_method_11_code (4 : Nat) (Option.some Jvm.ClassFile.FieldType.int)) ∈ lw_all := lw_g (lw_at lw_m2 3 rfl) rfl
theorem q258 : (Jvm.Cond.constant "UndoReaderModel" (67 : Nat) (-2000000000 : Int32)) ∈ lw_all := lw_g (lw_at lw_m2 4 rfl) rfl
theorem q259 : (Jvm.Cond.methodLink "UndoReaderModel" (68 : Nat) ({ cls := "UndoReaderModel", name := "valueAt", desc := "(II)I" } : Jvm.MethodName)) ∈ lw_all := lw_g (lw_at lw_m2 5 rfl) rfl
theorem q260 : (Jvm.Cond.privateMethod ({ cls := "UndoReaderModel", name := "valueAt", desc := "(II)I" } : Jvm.MethodName)) ∈ lw_tbl := lw_at lw_m2 6 rfl
theorem q261 : (Jvm.Cond.instanceMethod ({ cls := "UndoReaderModel", name := "valueAt", desc := "(II)I" } : Jvm.MethodName)) ∈ lw_all := lw_g (lw_at lw_m2 7 rfl) rfl
theorem q262 : (Jvm.Cond.code ({ cls := "UndoReaderModel", name := "valueAt", desc := "(II)I" } : Jvm.MethodName) prog_3_method_10_code (5 : Nat) (Option.some Jvm.ClassFile.FieldType.int)) ∈ lw_all := lw_g (lw_at lw_m2 8 rfl) rfl
theorem q264 : (Jvm.Cond.instanceMethod ({ cls := "UndoReaderModel", name := "raw", desc := "(I)I" } : Jvm.MethodName)) ∈ lw_all := lw_g (lw_at lw_m2 10 rfl) rfl
theorem q265 : (Jvm.Cond.selects "UndoReaderModel" ({ cls := "UndoReaderModel", name := "raw", desc := "(I)I" } : Jvm.MethodName) ({ cls := "UndoReaderModel", name := "raw", desc := "(I)I" } : Jvm.MethodName)) ∈ lw_all := lw_g (lw_at lw_m2 11 rfl) rfl
theorem q266 : (Jvm.Cond.code ({ cls := "UndoReaderModel", name := "raw", desc := "(I)I" } : Jvm.MethodName) prog_3_method_12_code (2 : Nat) (Option.some Jvm.ClassFile.FieldType.int)) ∈ lw_all := lw_g (lw_at lw_m2 12 rfl) rfl
theorem q268 : (Jvm.Cond.instanceMethod ({ cls := "UndoReaderModel", name := "holder", desc := "(I)I" } : Jvm.MethodName)) ∈ lw_all := lw_g (lw_at lw_m2 14 rfl) rfl
theorem q269 : (Jvm.Cond.selects "UndoReaderModel" ({ cls := "UndoReaderModel", name := "holder", desc := "(I)I" } : Jvm.MethodName) ({ cls := "UndoReaderModel", name := "holder", desc := "(I)I" } : Jvm.MethodName)) ∈ lw_all := lw_g (lw_at lw_m2 15 rfl) rfl
theorem q270 : (Jvm.Cond.code ({ cls := "UndoReaderModel", name := "holder", desc := "(I)I" } : Jvm.MethodName) prog_3_method_13_code (2 : Nat) (Option.some Jvm.ClassFile.FieldType.int)) ∈ lw_all := lw_g (lw_at lw_m2 16 rfl) rfl
theorem q272 : (Jvm.Cond.instanceMethod ({ cls := "UndoReaderModel", name := "locks", desc := "(I)I" } : Jvm.MethodName)) ∈ lw_all := lw_g (lw_at lw_m2 18 rfl) rfl
theorem q273 : (Jvm.Cond.selects "UndoReaderModel" ({ cls := "UndoReaderModel", name := "locks", desc := "(I)I" } : Jvm.MethodName) ({ cls := "UndoReaderModel", name := "locks", desc := "(I)I" } : Jvm.MethodName)) ∈ lw_all := lw_g (lw_at lw_m2 19 rfl) rfl
theorem q274 : (Jvm.Cond.code ({ cls := "UndoReaderModel", name := "locks", desc := "(I)I" } : Jvm.MethodName) prog_3_method_14_code (4 : Nat) (Option.some Jvm.ClassFile.FieldType.int)) ∈ lw_all := lw_g (lw_at lw_m2 20 rfl) rfl
theorem q278 : (Jvm.Cond.instanceMethod ({ cls := "UndoReaderModel", name := "oldest", desc := "(I)I" } : Jvm.MethodName)) ∈ lw_all := lw_g (lw_at lw_m2 24 rfl) rfl
theorem q279 : (Jvm.Cond.selects "UndoReaderModel" ({ cls := "UndoReaderModel", name := "oldest", desc := "(I)I" } : Jvm.MethodName) ({ cls := "UndoReaderModel", name := "oldest", desc := "(I)I" } : Jvm.MethodName)) ∈ lw_all := lw_g (lw_at lw_m2 25 rfl) rfl
theorem q280 : (Jvm.Cond.code ({ cls := "UndoReaderModel", name := "oldest", desc := "(I)I" } : Jvm.MethodName) prog_3_method_17_code (2 : Nat) (Option.some Jvm.ClassFile.FieldType.int)) ∈ lw_all := lw_g (lw_at lw_m2 26 rfl) rfl
theorem q282 : (Jvm.Cond.instanceMethod ({ cls := "UndoReaderModel", name := "changedSince", desc := "(I)I" } : Jvm.MethodName)) ∈ lw_all := lw_g (lw_at lw_m2 28 rfl) rfl
theorem q283 : (Jvm.Cond.selects "UndoReaderModel" ({ cls := "UndoReaderModel", name := "changedSince", desc := "(I)I" } : Jvm.MethodName) ({ cls := "UndoReaderModel", name := "changedSince", desc := "(I)I" } : Jvm.MethodName)) ∈ lw_all := lw_g (lw_at lw_m2 29 rfl) rfl
theorem q284 : (Jvm.Cond.code ({ cls := "UndoReaderModel", name := "changedSince", desc := "(I)I" } : Jvm.MethodName) prog_3_method_18_code (4 : Nat) (Option.some Jvm.ClassFile.FieldType.int)) ∈ lw_all := lw_g (lw_at lw_m2 30 rfl) rfl
theorem in_X1 : ∀ w ∈ wsX10, w ∈ lw_all := lw_in wsX10 [190, 192, 194, 196, 198, 200, 202, 204, 206, 208, 210] (by decide +kernel) (by decide +kernel)
end
section
/-! the law's own entry -/
set_option maxRecDepth 100000
abbrev cL_law : ByteArray := code
theorem dL_law_0 : decode cL_law 0 = .ok (.new 7, 3) := by decide +kernel
theorem dL_law_3 : decode cL_law 3 = .ok (.dup, 1) := by decide +kernel
theorem dL_law_4 : decode cL_law 4 = .ok (.invokespecial 9, 3) := by decide +kernel
theorem dL_law_7 : decode cL_law 7 = .ok (.astore_n 1, 1) := by decide +kernel
theorem dL_law_8 : decode cL_law 8 = .ok (.new 10, 3) := by decide +kernel
theorem dL_law_11 : decode cL_law 11 = .ok (.dup, 1) := by decide +kernel
theorem dL_law_12 : decode cL_law 12 = .ok (.invokespecial 12, 3) := by decide +kernel
theorem dL_law_15 : decode cL_law 15 = .ok (.astore_n 2, 1) := by decide +kernel
theorem dL_law_16 : decode cL_law 16 = .ok (.iconst 0, 1) := by decide +kernel
theorem dL_law_17 : decode cL_law 17 = .ok (.istore_n 3, 1) := by decide +kernel
theorem dL_law_18 : decode cL_law 18 = .ok (.iload_n 3, 1) := by decide +kernel
theorem dL_law_19 : decode cL_law 19 = .ok (.aload_n 0, 1) := by decide +kernel
theorem dL_law_20 : decode cL_law 20 = .ok (.arraylength, 1) := by decide +kernel
theorem dL_law_21 : decode cL_law 21 = .ok (.iconst 4, 1) := by decide +kernel
theorem dL_law_22 : decode cL_law 22 = .ok (.isub, 1) := by decide +kernel
theorem dL_law_23 : decode cL_law 23 = .ok (.if_icmp .gt 375, 3) := by decide +kernel
theorem dL_law_26 : decode cL_law 26 = .ok (.aload_n 0, 1) := by decide +kernel
theorem dL_law_27 : decode cL_law 27 = .ok (.iload_n 3, 1) := by decide +kernel
theorem dL_law_28 : decode cL_law 28 = .ok (.iaload, 1) := by decide +kernel
theorem dL_law_29 : decode cL_law 29 = .ok (.bipush 15, 2) := by decide +kernel
theorem dL_law_31 : decode cL_law 31 = .ok (.iand, 1) := by decide +kernel
theorem dL_law_32 : decode cL_law 32 = .ok (.tableswitch 360 0 11 #[64, 107, 130, 153, 166, 209, 232, 255, 278, 291, 314, 337], 64) := by decide +kernel
theorem dL_law_96 : decode cL_law 96 = .ok (.aload_n 1, 1) := by decide +kernel
theorem dL_law_97 : decode cL_law 97 = .ok (.aload_n 0, 1) := by decide +kernel
theorem dL_law_98 : decode cL_law 98 = .ok (.iload_n 3, 1) := by decide +kernel
theorem dL_law_99 : decode cL_law 99 = .ok (.iconst 1, 1) := by decide +kernel
theorem dL_law_100 : decode cL_law 100 = .ok (.iadd, 1) := by decide +kernel
theorem dL_law_101 : decode cL_law 101 = .ok (.iaload, 1) := by decide +kernel
theorem dL_law_102 : decode cL_law 102 = .ok (.aload_n 0, 1) := by decide +kernel
theorem dL_law_103 : decode cL_law 103 = .ok (.iload_n 3, 1) := by decide +kernel
theorem dL_law_104 : decode cL_law 104 = .ok (.iconst 2, 1) := by decide +kernel
theorem dL_law_105 : decode cL_law 105 = .ok (.iadd, 1) := by decide +kernel
theorem dL_law_106 : decode cL_law 106 = .ok (.iaload, 1) := by decide +kernel
theorem dL_law_107 : decode cL_law 107 = .ok (.aload_n 0, 1) := by decide +kernel
theorem dL_law_108 : decode cL_law 108 = .ok (.iload_n 3, 1) := by decide +kernel
theorem dL_law_109 : decode cL_law 109 = .ok (.iconst 3, 1) := by decide +kernel
theorem dL_law_110 : decode cL_law 110 = .ok (.iadd, 1) := by decide +kernel
theorem dL_law_111 : decode cL_law 111 = .ok (.iaload, 1) := by decide +kernel
theorem dL_law_112 : decode cL_law 112 = .ok (.invokevirtual 13, 3) := by decide +kernel
theorem dL_law_115 : decode cL_law 115 = .ok (.aload_n 2, 1) := by decide +kernel
theorem dL_law_116 : decode cL_law 116 = .ok (.aload_n 0, 1) := by decide +kernel
theorem dL_law_117 : decode cL_law 117 = .ok (.iload_n 3, 1) := by decide +kernel
theorem dL_law_118 : decode cL_law 118 = .ok (.iconst 1, 1) := by decide +kernel
theorem dL_law_119 : decode cL_law 119 = .ok (.iadd, 1) := by decide +kernel
theorem dL_law_120 : decode cL_law 120 = .ok (.iaload, 1) := by decide +kernel
theorem dL_law_121 : decode cL_law 121 = .ok (.aload_n 0, 1) := by decide +kernel
theorem dL_law_122 : decode cL_law 122 = .ok (.iload_n 3, 1) := by decide +kernel
theorem dL_law_123 : decode cL_law 123 = .ok (.iconst 2, 1) := by decide +kernel
theorem dL_law_124 : decode cL_law 124 = .ok (.iadd, 1) := by decide +kernel
theorem dL_law_125 : decode cL_law 125 = .ok (.iaload, 1) := by decide +kernel
theorem dL_law_126 : decode cL_law 126 = .ok (.aload_n 0, 1) := by decide +kernel
theorem dL_law_127 : decode cL_law 127 = .ok (.iload_n 3, 1) := by decide +kernel
theorem dL_law_128 : decode cL_law 128 = .ok (.iconst 3, 1) := by decide +kernel
theorem dL_law_129 : decode cL_law 129 = .ok (.iadd, 1) := by decide +kernel
theorem dL_law_130 : decode cL_law 130 = .ok (.iaload, 1) := by decide +kernel
theorem dL_law_131 : decode cL_law 131 = .ok (.invokevirtual 17, 3) := by decide +kernel
theorem dL_law_134 : decode cL_law 134 = .ok (.if_icmp .eq 258, 3) := by decide +kernel
theorem dL_law_137 : decode cL_law 137 = .ok (.iconst 0, 1) := by decide +kernel
theorem dL_law_138 : decode cL_law 138 = .ok (.ireturn, 1) := by decide +kernel
theorem dL_law_139 : decode cL_law 139 = .ok (.aload_n 1, 1) := by decide +kernel
theorem dL_law_140 : decode cL_law 140 = .ok (.aload_n 0, 1) := by decide +kernel
theorem dL_law_141 : decode cL_law 141 = .ok (.iload_n 3, 1) := by decide +kernel
theorem dL_law_142 : decode cL_law 142 = .ok (.iconst 1, 1) := by decide +kernel
theorem dL_law_143 : decode cL_law 143 = .ok (.iadd, 1) := by decide +kernel
theorem dL_law_144 : decode cL_law 144 = .ok (.iaload, 1) := by decide +kernel
theorem dL_law_145 : decode cL_law 145 = .ok (.invokevirtual 18, 3) := by decide +kernel
theorem dL_law_148 : decode cL_law 148 = .ok (.aload_n 2, 1) := by decide +kernel
theorem dL_law_149 : decode cL_law 149 = .ok (.aload_n 0, 1) := by decide +kernel
theorem dL_law_150 : decode cL_law 150 = .ok (.iload_n 3, 1) := by decide +kernel
theorem dL_law_151 : decode cL_law 151 = .ok (.iconst 1, 1) := by decide +kernel
theorem dL_law_152 : decode cL_law 152 = .ok (.iadd, 1) := by decide +kernel
theorem dL_law_153 : decode cL_law 153 = .ok (.iaload, 1) := by decide +kernel
theorem dL_law_154 : decode cL_law 154 = .ok (.invokevirtual 22, 3) := by decide +kernel
theorem dL_law_157 : decode cL_law 157 = .ok (.if_icmp .eq 235, 3) := by decide +kernel
theorem dL_law_160 : decode cL_law 160 = .ok (.iconst 0, 1) := by decide +kernel
theorem dL_law_161 : decode cL_law 161 = .ok (.ireturn, 1) := by decide +kernel
theorem dL_law_162 : decode cL_law 162 = .ok (.aload_n 1, 1) := by decide +kernel
theorem dL_law_163 : decode cL_law 163 = .ok (.aload_n 0, 1) := by decide +kernel
theorem dL_law_164 : decode cL_law 164 = .ok (.iload_n 3, 1) := by decide +kernel
theorem dL_law_165 : decode cL_law 165 = .ok (.iconst 1, 1) := by decide +kernel
theorem dL_law_166 : decode cL_law 166 = .ok (.iadd, 1) := by decide +kernel
theorem dL_law_167 : decode cL_law 167 = .ok (.iaload, 1) := by decide +kernel
theorem dL_law_168 : decode cL_law 168 = .ok (.invokevirtual 23, 3) := by decide +kernel
theorem dL_law_171 : decode cL_law 171 = .ok (.aload_n 2, 1) := by decide +kernel
theorem dL_law_172 : decode cL_law 172 = .ok (.aload_n 0, 1) := by decide +kernel
theorem dL_law_173 : decode cL_law 173 = .ok (.iload_n 3, 1) := by decide +kernel
theorem dL_law_174 : decode cL_law 174 = .ok (.iconst 1, 1) := by decide +kernel
theorem dL_law_175 : decode cL_law 175 = .ok (.iadd, 1) := by decide +kernel
theorem dL_law_176 : decode cL_law 176 = .ok (.iaload, 1) := by decide +kernel
theorem dL_law_177 : decode cL_law 177 = .ok (.invokevirtual 26, 3) := by decide +kernel
theorem dL_law_180 : decode cL_law 180 = .ok (.if_icmp .eq 212, 3) := by decide +kernel
theorem dL_law_183 : decode cL_law 183 = .ok (.iconst 0, 1) := by decide +kernel
theorem dL_law_184 : decode cL_law 184 = .ok (.ireturn, 1) := by decide +kernel
theorem dL_law_185 : decode cL_law 185 = .ok (.aload_n 1, 1) := by decide +kernel
theorem dL_law_186 : decode cL_law 186 = .ok (.invokevirtual 27, 3) := by decide +kernel
theorem dL_law_189 : decode cL_law 189 = .ok (.aload_n 2, 1) := by decide +kernel
theorem dL_law_190 : decode cL_law 190 = .ok (.invokevirtual 31, 3) := by decide +kernel
theorem dL_law_193 : decode cL_law 193 = .ok (.if_icmp .eq 199, 3) := by decide +kernel
theorem dL_law_196 : decode cL_law 196 = .ok (.iconst 0, 1) := by decide +kernel
theorem dL_law_197 : decode cL_law 197 = .ok (.ireturn, 1) := by decide +kernel
theorem dL_law_198 : decode cL_law 198 = .ok (.aload_n 1, 1) := by decide +kernel
theorem dL_law_199 : decode cL_law 199 = .ok (.aload_n 0, 1) := by decide +kernel
theorem dL_law_200 : decode cL_law 200 = .ok (.iload_n 3, 1) := by decide +kernel
theorem dL_law_201 : decode cL_law 201 = .ok (.iconst 1, 1) := by decide +kernel
theorem dL_law_202 : decode cL_law 202 = .ok (.iadd, 1) := by decide +kernel
theorem dL_law_203 : decode cL_law 203 = .ok (.iaload, 1) := by decide +kernel
theorem dL_law_204 : decode cL_law 204 = .ok (.aload_n 0, 1) := by decide +kernel
theorem dL_law_205 : decode cL_law 205 = .ok (.iload_n 3, 1) := by decide +kernel
theorem dL_law_206 : decode cL_law 206 = .ok (.iconst 2, 1) := by decide +kernel
theorem dL_law_207 : decode cL_law 207 = .ok (.iadd, 1) := by decide +kernel
theorem dL_law_208 : decode cL_law 208 = .ok (.iaload, 1) := by decide +kernel
theorem dL_law_209 : decode cL_law 209 = .ok (.aload_n 0, 1) := by decide +kernel
theorem dL_law_210 : decode cL_law 210 = .ok (.iload_n 3, 1) := by decide +kernel
theorem dL_law_211 : decode cL_law 211 = .ok (.iconst 3, 1) := by decide +kernel
theorem dL_law_212 : decode cL_law 212 = .ok (.iadd, 1) := by decide +kernel
theorem dL_law_213 : decode cL_law 213 = .ok (.iaload, 1) := by decide +kernel
theorem dL_law_214 : decode cL_law 214 = .ok (.invokevirtual 32, 3) := by decide +kernel
theorem dL_law_217 : decode cL_law 217 = .ok (.aload_n 2, 1) := by decide +kernel
theorem dL_law_218 : decode cL_law 218 = .ok (.aload_n 0, 1) := by decide +kernel
theorem dL_law_219 : decode cL_law 219 = .ok (.iload_n 3, 1) := by decide +kernel
theorem dL_law_220 : decode cL_law 220 = .ok (.iconst 1, 1) := by decide +kernel
theorem dL_law_221 : decode cL_law 221 = .ok (.iadd, 1) := by decide +kernel
theorem dL_law_222 : decode cL_law 222 = .ok (.iaload, 1) := by decide +kernel
theorem dL_law_223 : decode cL_law 223 = .ok (.aload_n 0, 1) := by decide +kernel
theorem dL_law_224 : decode cL_law 224 = .ok (.iload_n 3, 1) := by decide +kernel
theorem dL_law_225 : decode cL_law 225 = .ok (.iconst 2, 1) := by decide +kernel
theorem dL_law_226 : decode cL_law 226 = .ok (.iadd, 1) := by decide +kernel
theorem dL_law_227 : decode cL_law 227 = .ok (.iaload, 1) := by decide +kernel
theorem dL_law_228 : decode cL_law 228 = .ok (.aload_n 0, 1) := by decide +kernel
theorem dL_law_229 : decode cL_law 229 = .ok (.iload_n 3, 1) := by decide +kernel
theorem dL_law_230 : decode cL_law 230 = .ok (.iconst 3, 1) := by decide +kernel
theorem dL_law_231 : decode cL_law 231 = .ok (.iadd, 1) := by decide +kernel
theorem dL_law_232 : decode cL_law 232 = .ok (.iaload, 1) := by decide +kernel
theorem dL_law_233 : decode cL_law 233 = .ok (.invokevirtual 35, 3) := by decide +kernel
theorem dL_law_236 : decode cL_law 236 = .ok (.if_icmp .eq 156, 3) := by decide +kernel
theorem dL_law_239 : decode cL_law 239 = .ok (.iconst 0, 1) := by decide +kernel
theorem dL_law_240 : decode cL_law 240 = .ok (.ireturn, 1) := by decide +kernel
theorem dL_law_241 : decode cL_law 241 = .ok (.aload_n 1, 1) := by decide +kernel
theorem dL_law_242 : decode cL_law 242 = .ok (.aload_n 0, 1) := by decide +kernel
theorem dL_law_243 : decode cL_law 243 = .ok (.iload_n 3, 1) := by decide +kernel
theorem dL_law_244 : decode cL_law 244 = .ok (.iconst 1, 1) := by decide +kernel
theorem dL_law_245 : decode cL_law 245 = .ok (.iadd, 1) := by decide +kernel
theorem dL_law_246 : decode cL_law 246 = .ok (.iaload, 1) := by decide +kernel
theorem dL_law_247 : decode cL_law 247 = .ok (.invokevirtual 36, 3) := by decide +kernel
theorem dL_law_250 : decode cL_law 250 = .ok (.aload_n 2, 1) := by decide +kernel
theorem dL_law_251 : decode cL_law 251 = .ok (.aload_n 0, 1) := by decide +kernel
theorem dL_law_252 : decode cL_law 252 = .ok (.iload_n 3, 1) := by decide +kernel
theorem dL_law_253 : decode cL_law 253 = .ok (.iconst 1, 1) := by decide +kernel
theorem dL_law_254 : decode cL_law 254 = .ok (.iadd, 1) := by decide +kernel
theorem dL_law_255 : decode cL_law 255 = .ok (.iaload, 1) := by decide +kernel
theorem dL_law_256 : decode cL_law 256 = .ok (.invokevirtual 39, 3) := by decide +kernel
theorem dL_law_259 : decode cL_law 259 = .ok (.if_icmp .eq 133, 3) := by decide +kernel
theorem dL_law_262 : decode cL_law 262 = .ok (.iconst 0, 1) := by decide +kernel
theorem dL_law_263 : decode cL_law 263 = .ok (.ireturn, 1) := by decide +kernel
theorem dL_law_264 : decode cL_law 264 = .ok (.aload_n 1, 1) := by decide +kernel
theorem dL_law_265 : decode cL_law 265 = .ok (.aload_n 0, 1) := by decide +kernel
theorem dL_law_266 : decode cL_law 266 = .ok (.iload_n 3, 1) := by decide +kernel
theorem dL_law_267 : decode cL_law 267 = .ok (.iconst 1, 1) := by decide +kernel
theorem dL_law_268 : decode cL_law 268 = .ok (.iadd, 1) := by decide +kernel
theorem dL_law_269 : decode cL_law 269 = .ok (.iaload, 1) := by decide +kernel
theorem dL_law_270 : decode cL_law 270 = .ok (.invokevirtual 40, 3) := by decide +kernel
theorem dL_law_273 : decode cL_law 273 = .ok (.aload_n 2, 1) := by decide +kernel
theorem dL_law_274 : decode cL_law 274 = .ok (.aload_n 0, 1) := by decide +kernel
theorem dL_law_275 : decode cL_law 275 = .ok (.iload_n 3, 1) := by decide +kernel
theorem dL_law_276 : decode cL_law 276 = .ok (.iconst 1, 1) := by decide +kernel
theorem dL_law_277 : decode cL_law 277 = .ok (.iadd, 1) := by decide +kernel
theorem dL_law_278 : decode cL_law 278 = .ok (.iaload, 1) := by decide +kernel
theorem dL_law_279 : decode cL_law 279 = .ok (.invokevirtual 43, 3) := by decide +kernel
theorem dL_law_282 : decode cL_law 282 = .ok (.if_icmp .eq 110, 3) := by decide +kernel
theorem dL_law_285 : decode cL_law 285 = .ok (.iconst 0, 1) := by decide +kernel
theorem dL_law_286 : decode cL_law 286 = .ok (.ireturn, 1) := by decide +kernel
theorem dL_law_287 : decode cL_law 287 = .ok (.aload_n 1, 1) := by decide +kernel
theorem dL_law_288 : decode cL_law 288 = .ok (.aload_n 0, 1) := by decide +kernel
theorem dL_law_289 : decode cL_law 289 = .ok (.iload_n 3, 1) := by decide +kernel
theorem dL_law_290 : decode cL_law 290 = .ok (.iconst 1, 1) := by decide +kernel
theorem dL_law_291 : decode cL_law 291 = .ok (.iadd, 1) := by decide +kernel
theorem dL_law_292 : decode cL_law 292 = .ok (.iaload, 1) := by decide +kernel
theorem dL_law_293 : decode cL_law 293 = .ok (.invokevirtual 44, 3) := by decide +kernel
theorem dL_law_296 : decode cL_law 296 = .ok (.aload_n 2, 1) := by decide +kernel
theorem dL_law_297 : decode cL_law 297 = .ok (.aload_n 0, 1) := by decide +kernel
theorem dL_law_298 : decode cL_law 298 = .ok (.iload_n 3, 1) := by decide +kernel
theorem dL_law_299 : decode cL_law 299 = .ok (.iconst 1, 1) := by decide +kernel
theorem dL_law_300 : decode cL_law 300 = .ok (.iadd, 1) := by decide +kernel
theorem dL_law_301 : decode cL_law 301 = .ok (.iaload, 1) := by decide +kernel
theorem dL_law_302 : decode cL_law 302 = .ok (.invokevirtual 47, 3) := by decide +kernel
theorem dL_law_305 : decode cL_law 305 = .ok (.if_icmp .eq 87, 3) := by decide +kernel
theorem dL_law_308 : decode cL_law 308 = .ok (.iconst 0, 1) := by decide +kernel
theorem dL_law_309 : decode cL_law 309 = .ok (.ireturn, 1) := by decide +kernel
theorem dL_law_310 : decode cL_law 310 = .ok (.aload_n 1, 1) := by decide +kernel
theorem dL_law_311 : decode cL_law 311 = .ok (.invokevirtual 48, 3) := by decide +kernel
theorem dL_law_314 : decode cL_law 314 = .ok (.aload_n 2, 1) := by decide +kernel
theorem dL_law_315 : decode cL_law 315 = .ok (.invokevirtual 51, 3) := by decide +kernel
theorem dL_law_318 : decode cL_law 318 = .ok (.if_icmp .eq 74, 3) := by decide +kernel
theorem dL_law_321 : decode cL_law 321 = .ok (.iconst 0, 1) := by decide +kernel
theorem dL_law_322 : decode cL_law 322 = .ok (.ireturn, 1) := by decide +kernel
theorem dL_law_323 : decode cL_law 323 = .ok (.aload_n 1, 1) := by decide +kernel
theorem dL_law_324 : decode cL_law 324 = .ok (.aload_n 0, 1) := by decide +kernel
theorem dL_law_325 : decode cL_law 325 = .ok (.iload_n 3, 1) := by decide +kernel
theorem dL_law_326 : decode cL_law 326 = .ok (.iconst 1, 1) := by decide +kernel
theorem dL_law_327 : decode cL_law 327 = .ok (.iadd, 1) := by decide +kernel
theorem dL_law_328 : decode cL_law 328 = .ok (.iaload, 1) := by decide +kernel
theorem dL_law_329 : decode cL_law 329 = .ok (.invokevirtual 52, 3) := by decide +kernel
theorem dL_law_332 : decode cL_law 332 = .ok (.aload_n 2, 1) := by decide +kernel
theorem dL_law_333 : decode cL_law 333 = .ok (.aload_n 0, 1) := by decide +kernel
theorem dL_law_334 : decode cL_law 334 = .ok (.iload_n 3, 1) := by decide +kernel
theorem dL_law_335 : decode cL_law 335 = .ok (.iconst 1, 1) := by decide +kernel
theorem dL_law_336 : decode cL_law 336 = .ok (.iadd, 1) := by decide +kernel
theorem dL_law_337 : decode cL_law 337 = .ok (.iaload, 1) := by decide +kernel
theorem dL_law_338 : decode cL_law 338 = .ok (.invokevirtual 55, 3) := by decide +kernel
theorem dL_law_341 : decode cL_law 341 = .ok (.if_icmp .eq 51, 3) := by decide +kernel
theorem dL_law_344 : decode cL_law 344 = .ok (.iconst 0, 1) := by decide +kernel
theorem dL_law_345 : decode cL_law 345 = .ok (.ireturn, 1) := by decide +kernel
theorem dL_law_346 : decode cL_law 346 = .ok (.aload_n 1, 1) := by decide +kernel
theorem dL_law_347 : decode cL_law 347 = .ok (.aload_n 0, 1) := by decide +kernel
theorem dL_law_348 : decode cL_law 348 = .ok (.iload_n 3, 1) := by decide +kernel
theorem dL_law_349 : decode cL_law 349 = .ok (.iconst 1, 1) := by decide +kernel
theorem dL_law_350 : decode cL_law 350 = .ok (.iadd, 1) := by decide +kernel
theorem dL_law_351 : decode cL_law 351 = .ok (.iaload, 1) := by decide +kernel
theorem dL_law_352 : decode cL_law 352 = .ok (.invokevirtual 56, 3) := by decide +kernel
theorem dL_law_355 : decode cL_law 355 = .ok (.aload_n 2, 1) := by decide +kernel
theorem dL_law_356 : decode cL_law 356 = .ok (.aload_n 0, 1) := by decide +kernel
theorem dL_law_357 : decode cL_law 357 = .ok (.iload_n 3, 1) := by decide +kernel
theorem dL_law_358 : decode cL_law 358 = .ok (.iconst 1, 1) := by decide +kernel
theorem dL_law_359 : decode cL_law 359 = .ok (.iadd, 1) := by decide +kernel
theorem dL_law_360 : decode cL_law 360 = .ok (.iaload, 1) := by decide +kernel
theorem dL_law_361 : decode cL_law 361 = .ok (.invokevirtual 59, 3) := by decide +kernel
theorem dL_law_364 : decode cL_law 364 = .ok (.if_icmp .eq 28, 3) := by decide +kernel
theorem dL_law_367 : decode cL_law 367 = .ok (.iconst 0, 1) := by decide +kernel
theorem dL_law_368 : decode cL_law 368 = .ok (.ireturn, 1) := by decide +kernel
theorem dL_law_369 : decode cL_law 369 = .ok (.aload_n 1, 1) := by decide +kernel
theorem dL_law_370 : decode cL_law 370 = .ok (.aload_n 0, 1) := by decide +kernel
theorem dL_law_371 : decode cL_law 371 = .ok (.iload_n 3, 1) := by decide +kernel
theorem dL_law_372 : decode cL_law 372 = .ok (.iconst 1, 1) := by decide +kernel
theorem dL_law_373 : decode cL_law 373 = .ok (.iadd, 1) := by decide +kernel
theorem dL_law_374 : decode cL_law 374 = .ok (.iaload, 1) := by decide +kernel
theorem dL_law_375 : decode cL_law 375 = .ok (.invokevirtual 60, 3) := by decide +kernel
theorem dL_law_378 : decode cL_law 378 = .ok (.aload_n 2, 1) := by decide +kernel
theorem dL_law_379 : decode cL_law 379 = .ok (.aload_n 0, 1) := by decide +kernel
theorem dL_law_380 : decode cL_law 380 = .ok (.iload_n 3, 1) := by decide +kernel
theorem dL_law_381 : decode cL_law 381 = .ok (.iconst 1, 1) := by decide +kernel
theorem dL_law_382 : decode cL_law 382 = .ok (.iadd, 1) := by decide +kernel
theorem dL_law_383 : decode cL_law 383 = .ok (.iaload, 1) := by decide +kernel
theorem dL_law_384 : decode cL_law 384 = .ok (.invokevirtual 63, 3) := by decide +kernel
theorem dL_law_387 : decode cL_law 387 = .ok (.if_icmp .eq 5, 3) := by decide +kernel
theorem dL_law_390 : decode cL_law 390 = .ok (.iconst 0, 1) := by decide +kernel
theorem dL_law_391 : decode cL_law 391 = .ok (.ireturn, 1) := by decide +kernel
theorem dL_law_392 : decode cL_law 392 = .ok (.iinc 3 4, 3) := by decide +kernel
theorem dL_law_395 : decode cL_law 395 = .ok (.goto (-377), 3) := by decide +kernel
theorem dL_law_398 : decode cL_law 398 = .ok (.iconst 1, 1) := by decide +kernel
theorem dL_law_399 : decode cL_law 399 = .ok (.ireturn, 1) := by decide +kernel
end
section
/-! ===== G: the machine at a point of a method, over a world of cells; the locals as a list; rows over it ===== -/
abbrev Mem : Type := Nat → Nat → Int32
def pk (u : Mem) (k i : Nat) (x : Int32) : Mem := fun k' => if k' = k then upd (u k') i x else u k'
abbrev ix (x : Int32) : Nat := x.toNatClampNeg
def b8 (x : Int32) : Int32 := x.toInt8.toInt32
def b1 (x : Int32) : Int32 := vp_nar .boolean x
abbrev vwCl : List vw_C := [(RX0, TX0, 18), (RX1, TX1, 11)]
def lo_has (ls : Array Slot) (n : Nat) (L : List (Option Value)) : Prop := ls.size = n ∧ lv_wf ls ∧ ∀ (i : Nat) (v : Value), L[i]? = some (some v) → ls[i]? = some (.val v) ∧ v.category = 1
def lo_ps (L : List (Option Value)) : List (Nat × Value) := (List.range L.length).filterMap (fun i => match L[i]? with | some (some v) => some (i, v) | _ => none)
theorem lo_mem {L : List (Option Value)} {i : Nat} {v : Value} : (i, v) ∈ lo_ps L ↔ L[i]? = some (some v) := by
  unfold lo_ps
  rw [List.mem_filterMap]
  constructor
  · rintro ⟨j, -, h⟩
    split at h
    · rename_i w hw
      cases h
      exact hw
    · cases h
  · intro h
    have hl := (List.getElem?_eq_some_iff.mp h).1
    exact ⟨i, List.mem_range.mpr hl, by rw [h]⟩
theorem lo_lv {ls : Array Slot} {n : Nat} {L : List (Option Value)} (h : lo_has ls n L) : lv_has ls n (lo_ps L) := ⟨h.1, h.2.1, fun q hq => (h.2.2 q.1 q.2 (lo_mem.mp hq)).1⟩
theorem lo_of {ls : Array Slot} {n : Nat} {L : List (Option Value)} {l : List (Nat × Value)} (h : lv_has ls n l) (hs : ∀ q, q ∈ lo_ps L → q ∈ l) (hc : ∀ (i : Nat) (v : Value), L[i]? = some (some v) → v.category = 1) : lo_has ls n L := ⟨h.1, h.2.1, fun i v hv => ⟨h.2.2 (i, v) (hs (i, v) (lo_mem.mpr hv)), hc i v hv⟩⟩
theorem lo_put {ls ls' : Array Slot} {n i : Nat} {v : Value} {L : List (Option Value)} (h : lo_has ls n L) (hv : v.category = 1) (h' : lv_has ls' n ((i, v) :: (lo_ps L).filter (fun q => !(q.1 == i) && !(q.1 + 1 == i && q.2.category == 2)))) : lo_has ls' n (L.set i (some v)) := by
  refine ⟨h'.1, h'.2.1, fun j w hw => ?_⟩
  rw [List.getElem?_set] at hw
  split at hw
  · rename_i e
    split at hw
    · cases hw
      subst e
      exact ⟨h'.2.2 (i, v) List.mem_cons_self, hv⟩
    · cases hw
  · rename_i e
    have hc := (h.2.2 j w hw).2
    refine ⟨h'.2.2 (j, w) (List.mem_cons_of_mem _ (List.mem_filter.mpr ⟨lo_mem.mpr hw, ?_⟩)), hc⟩
    have e' : ¬ j = i := fun x => e x.symm
    simp [e', hc]
def G (p : Program) (l : Launch) (e : Env) (R : Room) (s : State) (m : MethodId) (args : Array Value) (below : List Frame) (meth : Method) (c : Code) (D : va_G) (A : Nat → Prop) (n : Nat) (cells slots : Nat) (Q : State → Prop) (ws : va_W) (pc : Nat) (L : List (Option Value)) (st : List Value) : Prop :=
  ∀ (H : Heap) (locs : List Loc) (ls : Array Slot), va_P D vwCl ws H → va_D A ws → va_S A s.heap H locs → lo_has ls n L → W p l e R s m args below meth c H locs cells slots Q (F0 m pc ls st)
def Cx (p : Program) (s : State) (m : MethodId) (args : Array Value) (c : Code) (D : va_G) (A : Nat → Prop) (cc : ByteArray) (n : Nat) (own : String) (tys : List (ClassId × FieldType)) : Prop :=
  p.tables.exec = Jvm.exec ∧ c.code = cc ∧ c.maxLocals = n ∧ s.vm.findClass own = some m.cls ∧ (∀ w ∈ lw_all, w.before args s = true) ∧ va_K D vwCl tys s ∧ (∀ q : Nat, s.heap.size ≤ q → A q)
section GR
variable {p : Program} {l : Launch} {e : Env} {R : Room} {s : State} {m : MethodId} {args : Array Value} {below : List Frame} {meth : Method} {c : Code} {D : va_G} {A : Nat → Prop} {n : Nat} {cells slots : Nat} {Q : State → Prop} {ws : va_W} {pc : Nat} {L : List (Option Value)} {rest : List Value} {cc : ByteArray} {own : String} {tys : List (ClassId × FieldType)}
theorem g_iconst (C : Cx p s m args c D A cc n own tys) {k : Int} (v : Int32) (hdg : decode cc pc = .ok (.iconst k, 1)) (hv : Int32.ofInt k = v) (kk : G p l e R s m args below meth c D A n cells slots Q (ws) (pc + 1) (L) (.int v :: rest)) : G p l e R s m args below meth c D A n cells slots Q (ws) (pc) (L) (rest) :=
  fun H locs ls hP hD hS hl => lv_iconst C.1 C.2.1 hdg hv (kk H locs ls hP hD hS hl)
theorem g_bipush (C : Cx p s m args c D A cc n own tys) {k : Int} (v : Int32) (hdg : decode cc pc = .ok (.bipush k, 2)) (hv : (Int8.ofInt k).toInt32 = v) (kk : G p l e R s m args below meth c D A n cells slots Q (ws) (pc + 2) (L) (.int v :: rest)) : G p l e R s m args below meth c D A n cells slots Q (ws) (pc) (L) (rest) :=
  fun H locs ls hP hD hS hl => lv_bipush C.1 C.2.1 hdg hv (kk H locs ls hP hD hS hl)
theorem g_sipush (C : Cx p s m args c D A cc n own tys) {k : Int} (v : Int32) (hdg : decode cc pc = .ok (.sipush k, 3)) (hv : (Int16.ofInt k).toInt32 = v) (kk : G p l e R s m args below meth c D A n cells slots Q (ws) (pc + 3) (L) (.int v :: rest)) : G p l e R s m args below meth c D A n cells slots Q (ws) (pc) (L) (rest) :=
  fun H locs ls hP hD hS hl => lv_sipush C.1 C.2.1 hdg hv (kk H locs ls hP hD hS hl)
theorem g_ldc (C : Cx p s m args c D A cc n own tys) {k : Nat} {v : Int32} (hq : Jvm.Cond.constant own k v ∈ lw_all) (hdg : decode cc pc = .ok (.ldc k, 2)) (kk : G p l e R s m args below meth c D A n cells slots Q (ws) (pc + 2) (L) (.int v :: rest)) : G p l e R s m args below meth c D A n cells slots Q (ws) (pc) (L) (rest) :=
  fun H locs ls hP hD hS hl => lv_ldc C.1 C.2.1 C.2.2.2.1 (C.2.2.2.2.1 _ hq) hdg (kk H locs ls hP hD hS hl)
theorem g_iload_n (C : Cx p s m args c D A cc n own tys) {k : Fin 4} {x : Int32} (hdg : decode cc pc = .ok (.iload_n k, 1)) (hx : L[(k : Nat)]? = some (some (.int x))) (kk : G p l e R s m args below meth c D A n cells slots Q (ws) (pc + 1) (L) (.int x :: rest)) : G p l e R s m args below meth c D A n cells slots Q (ws) (pc) (L) (rest) :=
  fun H locs ls hP hD hS hl => lv_iload_n C.1 C.2.1 hdg rfl (hl.2.2 _ _ hx).1 (kk H locs ls hP hD hS hl)
theorem g_aload_n (C : Cx p s m args c D A cc n own tys) {k : Fin 4} {x : Nat} (hdg : decode cc pc = .ok (.aload_n k, 1)) (hx : L[(k : Nat)]? = some (some (.ref x))) (kk : G p l e R s m args below meth c D A n cells slots Q (ws) (pc + 1) (L) (.ref x :: rest)) : G p l e R s m args below meth c D A n cells slots Q (ws) (pc) (L) (rest) :=
  fun H locs ls hP hD hS hl => lv_aload_n C.1 C.2.1 hdg rfl (hl.2.2 _ _ hx).1 (kk H locs ls hP hD hS hl)
theorem g_iload (C : Cx p s m args c D A cc n own tys) {i : Nat} {x : Int32} (hdg : decode cc pc = .ok (.iload i, 2)) (hx : L[i]? = some (some (.int x))) (kk : G p l e R s m args below meth c D A n cells slots Q (ws) (pc + 2) (L) (.int x :: rest)) : G p l e R s m args below meth c D A n cells slots Q (ws) (pc) (L) (rest) :=
  fun H locs ls hP hD hS hl => lv_iload C.1 C.2.1 hdg (hl.2.2 _ _ hx).1 (kk H locs ls hP hD hS hl)
theorem g_istore_n (C : Cx p s m args c D A cc n own tys) {k : Fin 4} {x : Int32} (hdg : decode cc pc = .ok (.istore_n k, 1)) (hn : (k : Nat) < n) (kk : G p l e R s m args below meth c D A n cells slots Q (ws) (pc + 1) (L.set (k : Nat) (some (.int x))) (rest)) : G p l e R s m args below meth c D A n cells slots Q (ws) (pc) (L) (.int x :: rest) :=
  fun H locs ls hP hD hS hl => lv_istore_n C.1 C.2.1 hdg rfl (lo_lv hl) hn rfl (fun ls h => kk H locs ls hP hD hS (lo_put hl rfl h))
theorem g_astore_n (C : Cx p s m args c D A cc n own tys) {k : Fin 4} {x : Nat} (hdg : decode cc pc = .ok (.astore_n k, 1)) (hn : (k : Nat) < n) (kk : G p l e R s m args below meth c D A n cells slots Q (ws) (pc + 1) (L.set (k : Nat) (some (.ref x))) (rest)) : G p l e R s m args below meth c D A n cells slots Q (ws) (pc) (L) (.ref x :: rest) :=
  fun H locs ls hP hD hS hl => lv_astore_n C.1 C.2.1 hdg rfl (lo_lv hl) hn rfl (fun ls h => kk H locs ls hP hD hS (lo_put hl rfl h))
theorem g_istore (C : Cx p s m args c D A cc n own tys) {i : Nat} {x : Int32} (hdg : decode cc pc = .ok (.istore i, 2)) (hn : i < n) (kk : G p l e R s m args below meth c D A n cells slots Q (ws) (pc + 2) (L.set i (some (.int x))) (rest)) : G p l e R s m args below meth c D A n cells slots Q (ws) (pc) (L) (.int x :: rest) :=
  fun H locs ls hP hD hS hl => lv_istore C.1 C.2.1 hdg (lo_lv hl) hn rfl (fun ls h => kk H locs ls hP hD hS (lo_put hl rfl h))
theorem g_iinc (C : Cx p s m args c D A cc n own tys) {i : Nat} {k : Int} {x : Int32} (v : Int32) (hdg : decode cc pc = .ok (.iinc i k, 3)) (hx : L[i]? = some (some (.int x))) (hv : x + Int32.ofInt k = v) (hn : i < n) (kk : G p l e R s m args below meth c D A n cells slots Q (ws) (pc + 3) (L.set i (some (.int v))) (rest)) : G p l e R s m args below meth c D A n cells slots Q (ws) (pc) (L) (rest) := by
  intro H locs ls hP hD hS hl
  obtain ⟨j, hj⟩ := List.getElem?_of_mem (lo_mem.mpr hx)
  exact lv_iinc C.1 C.2.1 hdg (lo_lv hl) hj hv hn rfl (fun ls h => kk H locs ls hP hD hS (lo_put hl rfl h))
theorem g_iadd (C : Cx p s m args c D A cc n own tys) {x y : Int32} (hdg : decode cc pc = .ok (.iadd, 1)) (kk : G p l e R s m args below meth c D A n cells slots Q (ws) (pc + 1) (L) (.int (x + y) :: rest)) : G p l e R s m args below meth c D A n cells slots Q (ws) (pc) (L) (.int y :: .int x :: rest) :=
  fun H locs ls hP hD hS hl => lv_iadd C.1 C.2.1 hdg (kk H locs ls hP hD hS hl)
theorem g_isub (C : Cx p s m args c D A cc n own tys) {x y : Int32} (hdg : decode cc pc = .ok (.isub, 1)) (kk : G p l e R s m args below meth c D A n cells slots Q (ws) (pc + 1) (L) (.int (x - y) :: rest)) : G p l e R s m args below meth c D A n cells slots Q (ws) (pc) (L) (.int y :: .int x :: rest) :=
  fun H locs ls hP hD hS hl => lv_isub C.1 C.2.1 hdg (kk H locs ls hP hD hS hl)
theorem g_iand (C : Cx p s m args c D A cc n own tys) {x y : Int32} (hdg : decode cc pc = .ok (.iand, 1)) (kk : G p l e R s m args below meth c D A n cells slots Q (ws) (pc + 1) (L) (.int (x &&& y) :: rest)) : G p l e R s m args below meth c D A n cells slots Q (ws) (pc) (L) (.int y :: .int x :: rest) :=
  fun H locs ls hP hD hS hl => lv_iand C.1 C.2.1 hdg (kk H locs ls hP hD hS hl)
theorem g_ior (C : Cx p s m args c D A cc n own tys) {x y : Int32} (hdg : decode cc pc = .ok (.ior, 1)) (kk : G p l e R s m args below meth c D A n cells slots Q (ws) (pc + 1) (L) (.int (x ||| y) :: rest)) : G p l e R s m args below meth c D A n cells slots Q (ws) (pc) (L) (.int y :: .int x :: rest) :=
  fun H locs ls hP hD hS hl => lv_ior C.1 C.2.1 hdg (kk H locs ls hP hD hS hl)
theorem g_ixor (C : Cx p s m args c D A cc n own tys) {x y : Int32} (hdg : decode cc pc = .ok (.ixor, 1)) (kk : G p l e R s m args below meth c D A n cells slots Q (ws) (pc + 1) (L) (.int (x ^^^ y) :: rest)) : G p l e R s m args below meth c D A n cells slots Q (ws) (pc) (L) (.int y :: .int x :: rest) :=
  fun H locs ls hP hD hS hl => lv_ixor C.1 C.2.1 hdg (kk H locs ls hP hD hS hl)
theorem g_ishl (C : Cx p s m args c D A cc n own tys) {x y : Int32} (hdg : decode cc pc = .ok (.ishl, 1)) (kk : G p l e R s m args below meth c D A n cells slots Q (ws) (pc + 1) (L) (.int (x <<< (y &&& 31)) :: rest)) : G p l e R s m args below meth c D A n cells slots Q (ws) (pc) (L) (.int y :: .int x :: rest) :=
  fun H locs ls hP hD hS hl => lv_ishl C.1 C.2.1 hdg (kk H locs ls hP hD hS hl)
theorem g_ishr (C : Cx p s m args c D A cc n own tys) {x y : Int32} (hdg : decode cc pc = .ok (.ishr, 1)) (kk : G p l e R s m args below meth c D A n cells slots Q (ws) (pc + 1) (L) (.int (x >>> (y &&& 31)) :: rest)) : G p l e R s m args below meth c D A n cells slots Q (ws) (pc) (L) (.int y :: .int x :: rest) :=
  fun H locs ls hP hD hS hl => lv_ishr C.1 C.2.1 hdg (kk H locs ls hP hD hS hl)
theorem g_iushr (C : Cx p s m args c D A cc n own tys) {x y : Int32} (hdg : decode cc pc = .ok (.iushr, 1)) (kk : G p l e R s m args below meth c D A n cells slots Q (ws) (pc + 1) (L) (.int ((x.toUInt32 >>> (y.toUInt32 &&& Int32.toUInt32 31)).toInt32) :: rest)) : G p l e R s m args below meth c D A n cells slots Q (ws) (pc) (L) (.int y :: .int x :: rest) :=
  fun H locs ls hP hD hS hl => lv_iushr C.1 C.2.1 hdg rfl (kk H locs ls hP hD hS hl)
theorem g_i2b (C : Cx p s m args c D A cc n own tys) {x : Int32} (hdg : decode cc pc = .ok (.i2b, 1)) (kk : G p l e R s m args below meth c D A n cells slots Q (ws) (pc + 1) (L) (.int (b8 x) :: rest)) : G p l e R s m args below meth c D A n cells slots Q (ws) (pc) (L) (.int x :: rest) :=
  fun H locs ls hP hD hS hl => lv_i2b C.1 C.2.1 hdg rfl (kk H locs ls hP hD hS hl)
theorem g_dup (C : Cx p s m args c D A cc n own tys) {v : Value} (hdg : decode cc pc = .ok (.dup, 1)) (hv : v.category = 1) (kk : G p l e R s m args below meth c D A n cells slots Q (ws) (pc + 1) (L) (v :: v :: rest)) : G p l e R s m args below meth c D A n cells slots Q (ws) (pc) (L) (v :: rest) :=
  fun H locs ls hP hD hS hl => lv_dup C.1 C.2.1 hdg hv (kk H locs ls hP hD hS hl)
theorem g_dup2 (C : Cx p s m args c D A cc n own tys) {v w : Value} (hdg : decode cc pc = .ok (.dup2, 1)) (hv : v.category = 1) (hw : w.category = 1) (kk : G p l e R s m args below meth c D A n cells slots Q (ws) (pc + 1) (L) (v :: w :: v :: w :: rest)) : G p l e R s m args below meth c D A n cells slots Q (ws) (pc) (L) (v :: w :: rest) :=
  fun H locs ls hP hD hS hl => lv_dup2_11 C.1 C.2.1 hdg hv hw (kk H locs ls hP hD hS hl)
theorem g_goto (C : Cx p s m args c D A cc n own tys) {off : Int} (tgt : Nat) (hdg : decode cc pc = .ok (.goto off, 3)) (ht : (pc : Int) + off = (tgt : Int)) (kk : G p l e R s m args below meth c D A n cells slots Q (ws) (tgt) (L) (rest)) : G p l e R s m args below meth c D A n cells slots Q (ws) (pc) (L) (rest) :=
  fun H locs ls hP hD hS hl => lv_goto C.1 C.2.1 hdg ht (kk H locs ls hP hD hS hl)
theorem g_if_eq (C : Cx p s m args c D A cc n own tys) {x : Int32} {off : Int} (tgt : Nat) (hdg : decode cc pc = .ok (.ifCond .eq off, 3)) (ht : (pc : Int) + off = (tgt : Int)) (kt : x = 0 → G p l e R s m args below meth c D A n cells slots Q (ws) (tgt) (L) (rest)) (kf : ¬ x = 0 → G p l e R s m args below meth c D A n cells slots Q (ws) (pc + 3) (L) (rest)) : G p l e R s m args below meth c D A n cells slots Q (ws) (pc) (L) (.int x :: rest) :=
  fun H locs ls hP hD hS hl => lv_if_eq C.1 C.2.1 hdg ht (fun h => kt h H locs ls hP hD hS hl) (fun h => kf h H locs ls hP hD hS hl)
theorem g_icmp_eq (C : Cx p s m args c D A cc n own tys) {x y : Int32} {off : Int} (tgt : Nat) (hdg : decode cc pc = .ok (.if_icmp .eq off, 3)) (ht : (pc : Int) + off = (tgt : Int)) (kt : x = y → G p l e R s m args below meth c D A n cells slots Q (ws) (tgt) (L) (rest)) (kf : ¬ x = y → G p l e R s m args below meth c D A n cells slots Q (ws) (pc + 3) (L) (rest)) : G p l e R s m args below meth c D A n cells slots Q (ws) (pc) (L) (.int y :: .int x :: rest) :=
  fun H locs ls hP hD hS hl => lv_icmp_eq C.1 C.2.1 hdg ht (fun h => kt h H locs ls hP hD hS hl) (fun h => kf h H locs ls hP hD hS hl)
theorem g_if_ne (C : Cx p s m args c D A cc n own tys) {x : Int32} {off : Int} (tgt : Nat) (hdg : decode cc pc = .ok (.ifCond .ne off, 3)) (ht : (pc : Int) + off = (tgt : Int)) (kt : ¬ x = 0 → G p l e R s m args below meth c D A n cells slots Q (ws) (tgt) (L) (rest)) (kf : x = 0 → G p l e R s m args below meth c D A n cells slots Q (ws) (pc + 3) (L) (rest)) : G p l e R s m args below meth c D A n cells slots Q (ws) (pc) (L) (.int x :: rest) :=
  fun H locs ls hP hD hS hl => lv_if_ne C.1 C.2.1 hdg ht (fun h => kt h H locs ls hP hD hS hl) (fun h => kf h H locs ls hP hD hS hl)
theorem g_icmp_ne (C : Cx p s m args c D A cc n own tys) {x y : Int32} {off : Int} (tgt : Nat) (hdg : decode cc pc = .ok (.if_icmp .ne off, 3)) (ht : (pc : Int) + off = (tgt : Int)) (kt : ¬ x = y → G p l e R s m args below meth c D A n cells slots Q (ws) (tgt) (L) (rest)) (kf : x = y → G p l e R s m args below meth c D A n cells slots Q (ws) (pc + 3) (L) (rest)) : G p l e R s m args below meth c D A n cells slots Q (ws) (pc) (L) (.int y :: .int x :: rest) :=
  fun H locs ls hP hD hS hl => lv_icmp_ne C.1 C.2.1 hdg ht (fun h => kt h H locs ls hP hD hS hl) (fun h => kf h H locs ls hP hD hS hl)
theorem g_if_lt (C : Cx p s m args c D A cc n own tys) {x : Int32} {off : Int} (tgt : Nat) (hdg : decode cc pc = .ok (.ifCond .lt off, 3)) (ht : (pc : Int) + off = (tgt : Int)) (kt : x < 0 → G p l e R s m args below meth c D A n cells slots Q (ws) (tgt) (L) (rest)) (kf : ¬ x < 0 → G p l e R s m args below meth c D A n cells slots Q (ws) (pc + 3) (L) (rest)) : G p l e R s m args below meth c D A n cells slots Q (ws) (pc) (L) (.int x :: rest) :=
  fun H locs ls hP hD hS hl => lv_if_lt C.1 C.2.1 hdg ht (fun h => kt h H locs ls hP hD hS hl) (fun h => kf h H locs ls hP hD hS hl)
theorem g_icmp_lt (C : Cx p s m args c D A cc n own tys) {x y : Int32} {off : Int} (tgt : Nat) (hdg : decode cc pc = .ok (.if_icmp .lt off, 3)) (ht : (pc : Int) + off = (tgt : Int)) (kt : x < y → G p l e R s m args below meth c D A n cells slots Q (ws) (tgt) (L) (rest)) (kf : ¬ x < y → G p l e R s m args below meth c D A n cells slots Q (ws) (pc + 3) (L) (rest)) : G p l e R s m args below meth c D A n cells slots Q (ws) (pc) (L) (.int y :: .int x :: rest) :=
  fun H locs ls hP hD hS hl => lv_icmp_lt C.1 C.2.1 hdg ht (fun h => kt h H locs ls hP hD hS hl) (fun h => kf h H locs ls hP hD hS hl)
theorem g_if_ge (C : Cx p s m args c D A cc n own tys) {x : Int32} {off : Int} (tgt : Nat) (hdg : decode cc pc = .ok (.ifCond .ge off, 3)) (ht : (pc : Int) + off = (tgt : Int)) (kt : 0 ≤ x → G p l e R s m args below meth c D A n cells slots Q (ws) (tgt) (L) (rest)) (kf : ¬ 0 ≤ x → G p l e R s m args below meth c D A n cells slots Q (ws) (pc + 3) (L) (rest)) : G p l e R s m args below meth c D A n cells slots Q (ws) (pc) (L) (.int x :: rest) :=
  fun H locs ls hP hD hS hl => lv_if_ge C.1 C.2.1 hdg ht (fun h => kt h H locs ls hP hD hS hl) (fun h => kf h H locs ls hP hD hS hl)
theorem g_icmp_ge (C : Cx p s m args c D A cc n own tys) {x y : Int32} {off : Int} (tgt : Nat) (hdg : decode cc pc = .ok (.if_icmp .ge off, 3)) (ht : (pc : Int) + off = (tgt : Int)) (kt : y ≤ x → G p l e R s m args below meth c D A n cells slots Q (ws) (tgt) (L) (rest)) (kf : ¬ y ≤ x → G p l e R s m args below meth c D A n cells slots Q (ws) (pc + 3) (L) (rest)) : G p l e R s m args below meth c D A n cells slots Q (ws) (pc) (L) (.int y :: .int x :: rest) :=
  fun H locs ls hP hD hS hl => lv_icmp_ge C.1 C.2.1 hdg ht (fun h => kt h H locs ls hP hD hS hl) (fun h => kf h H locs ls hP hD hS hl)
theorem g_if_gt (C : Cx p s m args c D A cc n own tys) {x : Int32} {off : Int} (tgt : Nat) (hdg : decode cc pc = .ok (.ifCond .gt off, 3)) (ht : (pc : Int) + off = (tgt : Int)) (kt : 0 < x → G p l e R s m args below meth c D A n cells slots Q (ws) (tgt) (L) (rest)) (kf : ¬ 0 < x → G p l e R s m args below meth c D A n cells slots Q (ws) (pc + 3) (L) (rest)) : G p l e R s m args below meth c D A n cells slots Q (ws) (pc) (L) (.int x :: rest) :=
  fun H locs ls hP hD hS hl => lv_if_gt C.1 C.2.1 hdg ht (fun h => kt h H locs ls hP hD hS hl) (fun h => kf h H locs ls hP hD hS hl)
theorem g_icmp_gt (C : Cx p s m args c D A cc n own tys) {x y : Int32} {off : Int} (tgt : Nat) (hdg : decode cc pc = .ok (.if_icmp .gt off, 3)) (ht : (pc : Int) + off = (tgt : Int)) (kt : y < x → G p l e R s m args below meth c D A n cells slots Q (ws) (tgt) (L) (rest)) (kf : ¬ y < x → G p l e R s m args below meth c D A n cells slots Q (ws) (pc + 3) (L) (rest)) : G p l e R s m args below meth c D A n cells slots Q (ws) (pc) (L) (.int y :: .int x :: rest) :=
  fun H locs ls hP hD hS hl => lv_icmp_gt C.1 C.2.1 hdg ht (fun h => kt h H locs ls hP hD hS hl) (fun h => kf h H locs ls hP hD hS hl)
theorem g_if_le (C : Cx p s m args c D A cc n own tys) {x : Int32} {off : Int} (tgt : Nat) (hdg : decode cc pc = .ok (.ifCond .le off, 3)) (ht : (pc : Int) + off = (tgt : Int)) (kt : x ≤ 0 → G p l e R s m args below meth c D A n cells slots Q (ws) (tgt) (L) (rest)) (kf : ¬ x ≤ 0 → G p l e R s m args below meth c D A n cells slots Q (ws) (pc + 3) (L) (rest)) : G p l e R s m args below meth c D A n cells slots Q (ws) (pc) (L) (.int x :: rest) :=
  fun H locs ls hP hD hS hl => lv_if_le C.1 C.2.1 hdg ht (fun h => kt h H locs ls hP hD hS hl) (fun h => kf h H locs ls hP hD hS hl)
theorem g_icmp_le (C : Cx p s m args c D A cc n own tys) {x y : Int32} {off : Int} (tgt : Nat) (hdg : decode cc pc = .ok (.if_icmp .le off, 3)) (ht : (pc : Int) + off = (tgt : Int)) (kt : x ≤ y → G p l e R s m args below meth c D A n cells slots Q (ws) (tgt) (L) (rest)) (kf : ¬ x ≤ y → G p l e R s m args below meth c D A n cells slots Q (ws) (pc + 3) (L) (rest)) : G p l e R s m args below meth c D A n cells slots Q (ws) (pc) (L) (.int y :: .int x :: rest) :=
  fun H locs ls hP hD hS hl => lv_icmp_le C.1 C.2.1 hdg ht (fun h => kt h H locs ls hP hD hS hl) (fun h => kf h H locs ls hP hD hS hl)
end GR
/-! ===== contracts over a world wf u (u: the numbers in its cells) ===== -/
def WB (D : va_G) (tys : List (ClassId × FieldType)) (wf : Mem → va_W) (A : Nat → Prop) (u : Mem) (t : State) : Prop := va_P D vwCl (wf u) t.heap ∧ va_K D vwCl tys t ∧ va_D A (wf u)
def Wpre (D : va_G) (tys : List (ClassId × FieldType)) (ws : va_W) (sz : Nat) (U : State) : Prop := U.heap.size = sz ∧ va_P D vwCl ws U.heap ∧ va_K D vwCl tys U ∧ va_D (fun _ => True) ws
/-- a method that answers an int (or a boolean): from the world wf u to the world wf u', the answer r, with post r u' -/
def Mi (D : va_G) (tys : List (ClassId × FieldType)) (o : Nat) (wf : Mem → va_W) (y : MethodName) (cc : ByteArray) (nL : Nat) (ret : FieldType) (rm : Room) (As : List Value) (u : Mem) (post : Int32 → Mem → Prop) : Prop :=
  ∀ (l : Launch) (sz : Nat), Met l y (ws_ y cc nL (some ret)) rm (va_Pc (.ref o :: As) (Wpre D tys (wf u) sz)) (va_Qi post (WB D tys wf (va_A (wf u) sz)) (va_A (wf u) sz)) 0 0 (va_A (wf u) sz)
/-- a void method -/
def Mv (D : va_G) (tys : List (ClassId × FieldType)) (o : Nat) (wf : Mem → va_W) (y : MethodName) (cc : ByteArray) (nL : Nat) (rm : Room) (As : List Value) (u : Mem) (post : Mem → Prop) : Prop :=
  ∀ (l : Launch) (sz : Nat), Met l y (ws_ y cc nL none) rm (va_Pc (.ref o :: As) (Wpre D tys (wf u) sz)) (va_Qv post (WB D tys wf (va_A (wf u) sz)) (va_A (wf u) sz)) 0 0 (va_A (wf u) sz)
/-- a static method of ints: it touches nothing -/
def Ms (y : MethodName) (cc : ByteArray) (nL : Nat) (ret : FieldType) (rm : Room) (As : List Value) (post : Int32 → Prop) : Prop :=
  ∀ (l : Launch), Met l y (ws_ y cc nL (some ret)) rm (va_Pc As (fun _ => True)) (va_Qi (fun r (_ : Unit) => post r) (fun _ _ => True) (fun _ => False)) 0 0 (fun _ => False)
theorem Wpre.blind {D : va_G} {tys : List (ClassId × FieldType)} {ws : va_W} {sz : Nat} {av : List Value} : FrameBlind (va_Pc av (Wpre D tys ws sz)) := fun a U g mk q => by
  obtain ⟨q0, q1, qP, qK, qD⟩ := q
  exact ⟨q0, q1, qP, va_K.moved (u := U) (U := U.calling g mk a) (Vm.Alike.refl U.vm) qK, qD⟩
abbrev lo_in (vs : List Value) (k : Nat) : List (Option Value) := vs.map some ++ List.replicate k none
theorem lo_entry {vs : List Value} {nL k : Nat} (hk : (lg_sl vs).length ≤ nL) (hps : lo_ps (lo_in vs k) = lv_args 0 vs) (hc : ∀ v ∈ vs, v.category = 1) : lo_has ((lg_sl vs ++ List.replicate (nL - (lg_sl vs).length) Slot.unset).toArray) nL (lo_in vs k) := by
  refine lo_of (lv_entry vs hk) (fun q hq => by rw [← hps]; exact hq) (fun i v hv => ?_)
  have hm := List.mem_of_getElem? hv
  rcases List.mem_append.mp hm with h | h
  · obtain ⟨w, hw, e⟩ := List.mem_map.mp h
    cases e
    exact hc _ hw
  · have := (List.mem_replicate.mp h).2
    cases this
theorem Mi.start {D : va_G} {tys : List (ClassId × FieldType)} {o : Nat} {wf : Mem → va_W} {y : MethodName} {cc : ByteArray} {nL : Nat} {ret : FieldType} {rm : Room} {As : List Value} {u : Mem} {post : Int32 → Mem → Prop} (k : Nat) (hy : plainName y.cls = true) (hk : (lg_sl (.ref o :: As)).length ≤ nL) (hps : lo_ps (lo_in (.ref o :: As) k) = lv_args 0 (.ref o :: As)) (hc : ∀ v ∈ (Value.ref o :: As), v.category = 1)
    (h : ∀ (p : Program) (l : Launch) (e : Env) (s : State) (m : MethodId) (args : Array Value) (below : List Frame) (meth : Method) (c : Code) (A : Nat → Prop) (Q : State → Prop), Cx p s m args c D A cc nL y.cls tys → (∀ {pc : Nat} {L : List (Option Value)} {v : Int32} {u' : Mem}, decode cc pc = .ok (.ireturn, 1) → narrow ret (.int v) = .int v → post v u' → G p l e rm s m args below meth c D A nL 0 0 Q (wf u') pc L [.int v]) → G p l e rm s m args below meth c D A nL 0 0 Q (wf u) 0 (lo_in (.ref o :: As) k) []) : Mi D tys o wf y cc nL ret rm As u post := by
  intro l sz
  refine Met.ofW (cc := cc) (maxL := nL) (ret := some ret) hy rfl ?_
  intro p e s m args below meth c s₁ B hml hv
  obtain ⟨rfl, hsz, hP, hK, hD0⟩ := hv
  have hts := atoms_spec (ws := ws_ y cc nL (some ret)) B.pre
  have hts : ∀ w ∈ lw_all, w.before _ s = true := fun w h => hts w (List.mem_cons_of_mem _ h)
  subst hsz
  have hD := hD0.self (sz := s.heap.size)
  have hA : ∀ q : Nat, s.heap.size ≤ q → va_A (wf u) s.heap.size q := fun q h => Or.inr h
  rw [lg_entry_eq]
  refine h p l e s m _ below meth c _ _ ⟨B.exec, B.bytes, hml, findClass_of_methodNamed B.named, hts, hK, hA⟩ ?_ s.heap [] _ hP hD va_S.rf (lo_entry hk hps hc)
  intro pc L v u' hdg hv hp H locs ls hP hD hS hl
  exact W.zret B.exec B.bytes B.returns hv (fun t ht hW => ⟨⟨v, u', rfl, hp, by rw [ht]; exact hP, va_K.moved hW.alike hK, hD⟩, hS.F ht⟩) hS.2.2 hdg B.notSynchronized
theorem Mv.start {D : va_G} {tys : List (ClassId × FieldType)} {o : Nat} {wf : Mem → va_W} {y : MethodName} {cc : ByteArray} {nL : Nat} {rm : Room} {As : List Value} {u : Mem} {post : Mem → Prop} (k : Nat) (hy : plainName y.cls = true) (hk : (lg_sl (.ref o :: As)).length ≤ nL) (hps : lo_ps (lo_in (.ref o :: As) k) = lv_args 0 (.ref o :: As)) (hc : ∀ v ∈ (Value.ref o :: As), v.category = 1)
    (h : ∀ (p : Program) (l : Launch) (e : Env) (s : State) (m : MethodId) (args : Array Value) (below : List Frame) (meth : Method) (c : Code) (A : Nat → Prop) (Q : State → Prop), Cx p s m args c D A cc nL y.cls tys → (∀ {pc : Nat} {L : List (Option Value)} {u' : Mem}, decode cc pc = .ok (.return_, 1) → post u' → G p l e rm s m args below meth c D A nL 0 0 Q (wf u') pc L []) → G p l e rm s m args below meth c D A nL 0 0 Q (wf u) 0 (lo_in (.ref o :: As) k) []) : Mv D tys o wf y cc nL rm As u post := by
  intro l sz
  refine Met.ofW (cc := cc) (maxL := nL) (ret := none) hy rfl ?_
  intro p e s m args below meth c s₁ B hml hv
  obtain ⟨rfl, hsz, hP, hK, hD0⟩ := hv
  have hts := atoms_spec (ws := ws_ y cc nL none) B.pre
  have hts : ∀ w ∈ lw_all, w.before _ s = true := fun w h => hts w (List.mem_cons_of_mem _ h)
  subst hsz
  have hD := hD0.self (sz := s.heap.size)
  have hA : ∀ q : Nat, s.heap.size ≤ q → va_A (wf u) s.heap.size q := fun q h => Or.inr h
  rw [lg_entry_eq]
  refine h p l e s m _ below meth c _ _ ⟨B.exec, B.bytes, hml, findClass_of_methodNamed B.named, hts, hK, hA⟩ ?_ s.heap [] _ hP hD va_S.rf (lo_entry hk hps hc)
  intro pc L u' hdg hp H locs ls hP hD hS hl
  exact W.vret B.exec B.bytes B.returns (fun t ht hW => ⟨⟨u', rfl, hp, by rw [ht]; exact hP, va_K.moved hW.alike hK, hD⟩, hS.F ht⟩) hS.2.2 hdg B.notSynchronized
theorem Ms.start {y : MethodName} {cc : ByteArray} {nL : Nat} {ret : FieldType} {rm : Room} {As : List Value} {post : Int32 → Prop} (k : Nat) (hy : plainName y.cls = true) (hk : (lg_sl As).length ≤ nL) (hps : lo_ps (lo_in As k) = lv_args 0 As) (hc : ∀ v ∈ As, v.category = 1)
    (h : ∀ (p : Program) (l : Launch) (e : Env) (s : State) (m : MethodId) (below : List Frame) (meth : Method) (c : Code) (ls : Array Slot), p.tables.exec = Jvm.exec → c.code = cc → meth.sig.returnType = some ret → meth.locks = false → lo_has ls nL (lo_in As k) → W p l e rm s m As.toArray below meth c s.heap [] 0 0 (MQ below (va_Qi (fun r (_ : Unit) => post r) (fun _ _ => True) (fun _ => False)) As.toArray s 0 0 (fun _ => False)) (F0 m 0 ls [])) : Ms y cc nL ret rm As post := by
  intro l
  refine Met.ofW (cc := cc) (maxL := nL) (ret := some ret) hy rfl ?_
  intro p e s m args below meth c s₁ B hml hv
  obtain ⟨rfl, -⟩ := hv
  rw [lg_entry_eq]
  exact h p l e s m below meth c _ B.exec B.bytes B.returns B.notSynchronized (lo_entry hk hps hc)
section GE
variable {p : Program} {l : Launch} {e : Env} {R : Room} {s : State} {m : MethodId} {args : Array Value} {below : List Frame} {meth : Method} {c : Code} {D : va_G} {A : Nat → Prop} {n : Nat} {cells slots : Nat} {Q : State → Prop} {pc : Nat} {L : List (Option Value)} {rest : List Value} {cc : ByteArray} {own : String} {tys : List (ClassId × FieldType)} {wf : Mem → va_W} {u : Mem}
theorem g_iret (C : Cx p s m args c D A cc n own tys) (hr : meth.sig.returnType = some .int) (hlk : meth.locks = false) {post : Int32 → Mem → Prop} {v : Int32} (hdg : decode cc pc = .ok (.ireturn, 1)) (hp : post v u) : G p l e R s m args below meth c D A n cells slots (MQ below (va_Qi post (WB D tys wf A) A) args s cells slots A) (wf u) pc L [.int v] :=
  fun H locs ls hP hD hS hl => W.iret C.1 C.2.1 hr (fun t ht hW => ⟨⟨v, u, rfl, hp, by rw [ht]; exact hP, va_K.moved hW.alike C.2.2.2.2.2.1, hD⟩, hS.F ht⟩) hS.2.2 hdg hlk
theorem g_zret (C : Cx p s m args c D A cc n own tys) (hr : meth.sig.returnType = some .boolean) (hlk : meth.locks = false) {post : Int32 → Mem → Prop} {v : Int32} (hv : narrow .boolean (.int v) = .int v) (hdg : decode cc pc = .ok (.ireturn, 1)) (hp : post v u) : G p l e R s m args below meth c D A n cells slots (MQ below (va_Qi post (WB D tys wf A) A) args s cells slots A) (wf u) pc L [.int v] :=
  fun H locs ls hP hD hS hl => W.zret C.1 C.2.1 hr hv (fun t ht hW => ⟨⟨v, u, rfl, hp, by rw [ht]; exact hP, va_K.moved hW.alike C.2.2.2.2.2.1, hD⟩, hS.F ht⟩) hS.2.2 hdg hlk
theorem g_vret (C : Cx p s m args c D A cc n own tys) (hr : meth.sig.returnType = none) (hlk : meth.locks = false) {post : Mem → Prop} (hdg : decode cc pc = .ok (.return_, 1)) (hp : post u) : G p l e R s m args below meth c D A n cells slots (MQ below (va_Qv post (WB D tys wf A) A) args s cells slots A) (wf u) pc L [] :=
  fun H locs ls hP hD hS hl => W.vret C.1 C.2.1 hr (fun t ht hW => ⟨⟨u, rfl, hp, by rw [ht]; exact hP, va_K.moved hW.alike C.2.2.2.2.2.1, hD⟩, hS.F ht⟩) hS.2.2 hdg hlk
/-- a call of a method of the same world -/
theorem g_calli (C : Cx p s m args c D A cc n own tys) {o ci : Nat} {Cn : String} {TT : u_T} {NN : Nat} {y : MethodName} {cc' : ByteArray} {nL : Nat} {ret : FieldType} {rm : Room} {As : List Value} {post : Int32 → Mem → Prop} {idx : Nat} (hM : Mi D tys o wf y cc' nL ret rm As u post) (hci : vwCl[ci]? = some (Cn, TT, NN)) (ho : ∃ fs, (wf u)[0]? = some (o, .inr (ci, fs))) (cw : CallW R s args own Cn idx y cc' nL (some ret) (ws_ y cc' nL (some ret)) rm 0 0 As.length) (hdg : decode cc pc = .ok (.invokevirtual idx, 3)) (hrm : (rest.map fun v => v.category).sum ≤ 8) (hcs : cells ≤ R.cells ∧ slots ≤ R.slots) {st : List Value} (hst : st = As.reverse ++ .ref o :: rest)
    (kk : ∀ (r : Int32) (u' : Mem), post r u' → G p l e R s m args below meth c D A n cells slots Q (wf u') (pc + 3) L (.int r :: rest)) : G p l e R s m args below meth c D A n cells slots Q (wf u) pc L st := by
  intro H locs ls hP hD hS hl
  subst hst
  obtain ⟨hx, hb, hml, hown, hts, hK, hA⟩ := C
  obtain ⟨fs, ho⟩ := ho
  have hF : ∀ q, va_A (wf u) H.size q → A q := fun q h => by
    rcases h with ⟨k, e, h⟩ | h
    · exact hD.2 k (q, e) h
    · exact hA q (Nat.le_trans hS.1 h)
  refine va_calli (va_runV (As := As) (rest := rest) (b := o) ⟨hx, hb, hml, hown, hts⟩ (hM l H.size) cw ⟨Wpre.blind, va_recv hK hP hci ho, fun U hU hW => ⟨rfl, by rw [hU], by rw [hU]; exact hP, va_K.moved hW.alike hK, hD.weaken (fun _ _ _ _ => trivial)⟩⟩ rfl rfl hl.1 rfl (lv_room hrm) hdg hcs) hS (fun q _ h => hF q h) hF (fun r u' t H1 locs ht hvm hw hB hz1 hk1 hS => ?_)
  obtain ⟨hP1, hK1, hD1⟩ := hB
  rw [ht] at hP1
  exact kk r u' hw H1 locs ls hP1 (hD1.weaken (fun k q _ h => hF q.1 h)) hS hl
theorem g_callv (C : Cx p s m args c D A cc n own tys) {o ci : Nat} {Cn : String} {TT : u_T} {NN : Nat} {y : MethodName} {cc' : ByteArray} {nL : Nat} {rm : Room} {As : List Value} {post : Mem → Prop} {idx : Nat} (hM : Mv D tys o wf y cc' nL rm As u post) (hci : vwCl[ci]? = some (Cn, TT, NN)) (ho : ∃ fs, (wf u)[0]? = some (o, .inr (ci, fs))) (cw : CallW R s args own Cn idx y cc' nL none (ws_ y cc' nL none) rm 0 0 As.length) (hdg : decode cc pc = .ok (.invokevirtual idx, 3)) (hrm : (rest.map fun v => v.category).sum ≤ 8) (hcs : cells ≤ R.cells ∧ slots ≤ R.slots) {st : List Value} (hst : st = As.reverse ++ .ref o :: rest)
    (kk : ∀ (u' : Mem), post u' → G p l e R s m args below meth c D A n cells slots Q (wf u') (pc + 3) L rest) : G p l e R s m args below meth c D A n cells slots Q (wf u) pc L st := by
  intro H locs ls hP hD hS hl
  subst hst
  obtain ⟨hx, hb, hml, hown, hts, hK, hA⟩ := C
  obtain ⟨fs, ho⟩ := ho
  have hF : ∀ q, va_A (wf u) H.size q → A q := fun q h => by
    rcases h with ⟨k, e, h⟩ | h
    · exact hD.2 k (q, e) h
    · exact hA q (Nat.le_trans hS.1 h)
  refine va_callv (va_runV (As := As) (rest := rest) (b := o) ⟨hx, hb, hml, hown, hts⟩ (hM l H.size) cw ⟨Wpre.blind, va_recv hK hP hci ho, fun U hU hW => ⟨rfl, by rw [hU], by rw [hU]; exact hP, va_K.moved hW.alike hK, hD.weaken (fun _ _ _ _ => trivial)⟩⟩ rfl rfl hl.1 rfl (lv_room hrm) hdg hcs) hS (fun q _ h => hF q h) hF (fun u' t H1 locs ht hvm hw hB hz1 hk1 hS => ?_)
  obtain ⟨hP1, hK1, hD1⟩ := hB
  rw [ht] at hP1
  exact kk u' hw H1 locs ls hP1 (hD1.weaken (fun k q _ h => hF q.1 h)) hS hl
theorem g_calls (C : Cx p s m args c D A cc n own tys) {y : MethodName} {cc' : ByteArray} {nL : Nat} {ret : FieldType} {rm : Room} {As : List Value} {post : Int32 → Prop} {idx : Nat} {ws : va_W} (hM : Ms y cc' nL ret rm As post) (cw : CallB R s args own idx y cc' nL (some ret) (ws_ y cc' nL (some ret)) rm 0 0 As.length ∧ (Cond.static y).before args s = true) (hdg : decode cc pc = .ok (.invokestatic idx, 3)) (hrm : (rest.map fun v => v.category).sum ≤ 8) (hcs : cells ≤ R.cells ∧ slots ≤ R.slots) {st : List Value} (hst : st = As.reverse ++ rest)
    (kk : ∀ (r : Int32), post r → G p l e R s m args below meth c D A n cells slots Q ws (pc + 3) L (.int r :: rest)) : G p l e R s m args below meth c D A n cells slots Q ws pc L st := by
  intro H locs ls hP hD hS hl
  subst hst
  obtain ⟨hx, hb, hml, hown, hts, hK, hA⟩ := C
  refine va_calli (va_runS (As := As) (rest := rest) ⟨hx, hb, hml, hown, hts⟩ (hM l) cw ⟨fun a U g mk q => q, fun U hU hW => ⟨rfl, trivial⟩⟩ rfl rfl hl.1 rfl (lv_room hrm) hdg hcs) hS (fun q _ h => absurd h id) (fun q h => absurd h id) (fun r u' t H1 locs ht hvm hw hB hz1 hk1 hS => ?_)
  exact kk r hw H1 locs ls (hP.kept (fun k q hq => hk1 q.1 ((hP k q hq).lt) id)) hD hS hl
end GE
/-! the world of a UndoReader: the object at o, the array of field k at q k (its class tt k); u k: what it holds (a number field: u k 0) -/
def XW (o : Nat) (q : Nat → Nat) (tt : Nat → ClassId) (u : Mem) : va_W := [(o, .inr (0, [.ref (q 0), .ref (q 1), .ref (q 2), .ref (q 3), .ref (q 4), .ref (q 5), .ref (q 6), .ref (q 7), .ref (q 8), .int (u 9 0), .int (u 10 0), .int (u 11 0), .int (u 12 0), .int (u 13 0), .ref (q 14), .ref (q 15), .ref (q 16), .int (u 17 0)])), (q 0, .inl (tt 0, 8, .inl (u 0))), (q 1, .inl (tt 1, 8, .inl (u 1))), (q 2, .inl (tt 2, 8, .inl (u 2))), (q 3, .inl (tt 3, 24, .inl (u 3))), (q 4, .inl (tt 4, 24, .inl (u 4))), (q 5, .inl (tt 5, 24, .inl (u 5))), (q 6, .inl (tt 6, 24, .inl (u 6))), (q 7, .inl (tt 7, 24, .inl (u 7))), (q 8, .inl (tt 8, 24, .inl (u 8))), (q 14, .inl (tt 14, 32, .inl (u 14))), (q 15, .inl (tt 15, 32, .inl (u 15))), (q 16, .inl (tt 16, 4, .inl (u 16)))]
def XK (tt : Nat → ClassId) : List (ClassId × FieldType) := [(tt 0, .int), (tt 1, .byte), (tt 2, .int), (tt 3, .byte), (tt 4, .int), (tt 5, .byte), (tt 6, .byte), (tt 7, .byte), (tt 8, .byte), (tt 14, .byte), (tt 15, .int), (tt 16, .byte)]
theorem XW_obj (o : Nat) (q : Nat → Nat) (tt : Nat → ClassId) (u : Mem) : ∃ fs, (XW o q tt u)[0]? = some (o, .inr (0, fs)) := ⟨_, rfl⟩
section XW_rows
variable {p : Program} {l : Launch} {e : Env} {R : Room} {s : State} {m : MethodId} {args : Array Value} {below : List Frame} {meth : Method} {c : Code} {D : va_G} {A : Nat → Prop} {n : Nat} {cells slots : Nat} {Q : State → Prop} {pc : Nat} {L : List (Option Value)} {rest : List Value} {cc : ByteArray} {o : Nat} {q : Nat → Nat} {tt : Nat → ClassId} {u : Mem}
theorem xg_0 (C : Cx p s m args c D A cc n RX0 (XK tt)) (hdg : decode cc pc = .ok (.getfield 7, 3)) (kk : G p l e R s m args below meth c D A n cells slots Q (XW o q tt (u)) (pc + 3) (L) (.ref (q 0) :: rest)) : G p l e R s m args below meth c D A n cells slots Q (XW o q tt (u)) (pc) (L) (.ref o :: rest) :=
  fun H locs ls hP hD hS hl => va_get (ci := 0) (v := .ref (q 0)) (C := RX0) (T := TX0) (N := 18) C.1 C.2.1 C.2.2.2.2.1 in_X0 C.2.2.2.1 C.2.2.2.2.2.1 hP 0 rfl rfl 0 (by decide) (C.2.2.2.2.1 _ q25) (fun _ h9 => h9) rfl hdg (kk H locs ls hP hD hS hl)
theorem xg_1 (C : Cx p s m args c D A cc n RX0 (XK tt)) (hdg : decode cc pc = .ok (.getfield 13, 3)) (kk : G p l e R s m args below meth c D A n cells slots Q (XW o q tt (u)) (pc + 3) (L) (.ref (q 1) :: rest)) : G p l e R s m args below meth c D A n cells slots Q (XW o q tt (u)) (pc) (L) (.ref o :: rest) :=
  fun H locs ls hP hD hS hl => va_get (ci := 0) (v := .ref (q 1)) (C := RX0) (T := TX0) (N := 18) C.1 C.2.1 C.2.2.2.2.1 in_X0 C.2.2.2.1 C.2.2.2.2.2.1 hP 0 rfl rfl 1 (by decide) (C.2.2.2.2.1 _ q26) (fun _ h9 => h9) rfl hdg (kk H locs ls hP hD hS hl)
theorem xg_2 (C : Cx p s m args c D A cc n RX0 (XK tt)) (hdg : decode cc pc = .ok (.getfield 17, 3)) (kk : G p l e R s m args below meth c D A n cells slots Q (XW o q tt (u)) (pc + 3) (L) (.ref (q 2) :: rest)) : G p l e R s m args below meth c D A n cells slots Q (XW o q tt (u)) (pc) (L) (.ref o :: rest) :=
  fun H locs ls hP hD hS hl => va_get (ci := 0) (v := .ref (q 2)) (C := RX0) (T := TX0) (N := 18) C.1 C.2.1 C.2.2.2.2.1 in_X0 C.2.2.2.1 C.2.2.2.2.2.1 hP 0 rfl rfl 2 (by decide) (C.2.2.2.2.1 _ q27) (fun _ h9 => h9) rfl hdg (kk H locs ls hP hD hS hl)
theorem xg_3 (C : Cx p s m args c D A cc n RX0 (XK tt)) (hdg : decode cc pc = .ok (.getfield 20, 3)) (kk : G p l e R s m args below meth c D A n cells slots Q (XW o q tt (u)) (pc + 3) (L) (.ref (q 3) :: rest)) : G p l e R s m args below meth c D A n cells slots Q (XW o q tt (u)) (pc) (L) (.ref o :: rest) :=
  fun H locs ls hP hD hS hl => va_get (ci := 0) (v := .ref (q 3)) (C := RX0) (T := TX0) (N := 18) C.1 C.2.1 C.2.2.2.2.1 in_X0 C.2.2.2.1 C.2.2.2.2.2.1 hP 0 rfl rfl 3 (by decide) (C.2.2.2.2.1 _ q28) (fun _ h9 => h9) rfl hdg (kk H locs ls hP hD hS hl)
theorem xg_4 (C : Cx p s m args c D A cc n RX0 (XK tt)) (hdg : decode cc pc = .ok (.getfield 23, 3)) (kk : G p l e R s m args below meth c D A n cells slots Q (XW o q tt (u)) (pc + 3) (L) (.ref (q 4) :: rest)) : G p l e R s m args below meth c D A n cells slots Q (XW o q tt (u)) (pc) (L) (.ref o :: rest) :=
  fun H locs ls hP hD hS hl => va_get (ci := 0) (v := .ref (q 4)) (C := RX0) (T := TX0) (N := 18) C.1 C.2.1 C.2.2.2.2.1 in_X0 C.2.2.2.1 C.2.2.2.2.2.1 hP 0 rfl rfl 4 (by decide) (C.2.2.2.2.1 _ q29) (fun _ h9 => h9) rfl hdg (kk H locs ls hP hD hS hl)
theorem xg_5 (C : Cx p s m args c D A cc n RX0 (XK tt)) (hdg : decode cc pc = .ok (.getfield 26, 3)) (kk : G p l e R s m args below meth c D A n cells slots Q (XW o q tt (u)) (pc + 3) (L) (.ref (q 5) :: rest)) : G p l e R s m args below meth c D A n cells slots Q (XW o q tt (u)) (pc) (L) (.ref o :: rest) :=
  fun H locs ls hP hD hS hl => va_get (ci := 0) (v := .ref (q 5)) (C := RX0) (T := TX0) (N := 18) C.1 C.2.1 C.2.2.2.2.1 in_X0 C.2.2.2.1 C.2.2.2.2.2.1 hP 0 rfl rfl 5 (by decide) (C.2.2.2.2.1 _ q30) (fun _ h9 => h9) rfl hdg (kk H locs ls hP hD hS hl)
theorem xg_6 (C : Cx p s m args c D A cc n RX0 (XK tt)) (hdg : decode cc pc = .ok (.getfield 29, 3)) (kk : G p l e R s m args below meth c D A n cells slots Q (XW o q tt (u)) (pc + 3) (L) (.ref (q 6) :: rest)) : G p l e R s m args below meth c D A n cells slots Q (XW o q tt (u)) (pc) (L) (.ref o :: rest) :=
  fun H locs ls hP hD hS hl => va_get (ci := 0) (v := .ref (q 6)) (C := RX0) (T := TX0) (N := 18) C.1 C.2.1 C.2.2.2.2.1 in_X0 C.2.2.2.1 C.2.2.2.2.2.1 hP 0 rfl rfl 6 (by decide) (C.2.2.2.2.1 _ q31) (fun _ h9 => h9) rfl hdg (kk H locs ls hP hD hS hl)
theorem xg_7 (C : Cx p s m args c D A cc n RX0 (XK tt)) (hdg : decode cc pc = .ok (.getfield 32, 3)) (kk : G p l e R s m args below meth c D A n cells slots Q (XW o q tt (u)) (pc + 3) (L) (.ref (q 7) :: rest)) : G p l e R s m args below meth c D A n cells slots Q (XW o q tt (u)) (pc) (L) (.ref o :: rest) :=
  fun H locs ls hP hD hS hl => va_get (ci := 0) (v := .ref (q 7)) (C := RX0) (T := TX0) (N := 18) C.1 C.2.1 C.2.2.2.2.1 in_X0 C.2.2.2.1 C.2.2.2.2.2.1 hP 0 rfl rfl 7 (by decide) (C.2.2.2.2.1 _ q32) (fun _ h9 => h9) rfl hdg (kk H locs ls hP hD hS hl)
theorem xg_8 (C : Cx p s m args c D A cc n RX0 (XK tt)) (hdg : decode cc pc = .ok (.getfield 35, 3)) (kk : G p l e R s m args below meth c D A n cells slots Q (XW o q tt (u)) (pc + 3) (L) (.ref (q 8) :: rest)) : G p l e R s m args below meth c D A n cells slots Q (XW o q tt (u)) (pc) (L) (.ref o :: rest) :=
  fun H locs ls hP hD hS hl => va_get (ci := 0) (v := .ref (q 8)) (C := RX0) (T := TX0) (N := 18) C.1 C.2.1 C.2.2.2.2.1 in_X0 C.2.2.2.1 C.2.2.2.2.2.1 hP 0 rfl rfl 8 (by decide) (C.2.2.2.2.1 _ q33) (fun _ h9 => h9) rfl hdg (kk H locs ls hP hD hS hl)
theorem xg_9 (C : Cx p s m args c D A cc n RX0 (XK tt)) (hdg : decode cc pc = .ok (.getfield 95, 3)) (kk : G p l e R s m args below meth c D A n cells slots Q (XW o q tt (u)) (pc + 3) (L) (.int (u 9 0) :: rest)) : G p l e R s m args below meth c D A n cells slots Q (XW o q tt (u)) (pc) (L) (.ref o :: rest) :=
  fun H locs ls hP hD hS hl => va_get (ci := 0) (v := .int (u 9 0)) (C := RX0) (T := TX0) (N := 18) C.1 C.2.1 C.2.2.2.2.1 in_X0 C.2.2.2.1 C.2.2.2.2.2.1 hP 0 rfl rfl 9 (by decide) (C.2.2.2.2.1 _ q34) (fun _ h9 => h9) rfl hdg (kk H locs ls hP hD hS hl)
theorem xw_9 (x : Int32) : (XW o q tt u).set 0 (o, .inr (0, [.ref (q 0), .ref (q 1), .ref (q 2), .ref (q 3), .ref (q 4), .ref (q 5), .ref (q 6), .ref (q 7), .ref (q 8), .int (u 9 0), .int (u 10 0), .int (u 11 0), .int (u 12 0), .int (u 13 0), .ref (q 14), .ref (q 15), .ref (q 16), .int (u 17 0)].set 9 (.int x))) = XW o q tt (pk u 9 0 x) := rfl
theorem xp_9 (C : Cx p s m args c D A cc n RX0 (XK tt)) {x : Int32} (hdg : decode cc pc = .ok (.putfield 95, 3)) (kk : G p l e R s m args below meth c D A n cells slots Q (XW o q tt (pk u 9 0 x)) (pc + 3) (L) (rest)) : G p l e R s m args below meth c D A n cells slots Q (XW o q tt (u)) (pc) (L) (.int x :: .ref o :: rest) :=
  fun H locs ls hP hD hS hl => va_put (ci := 0) (v := .int x) (ty := .int) (C := RX0) (T := TX0) (N := 18) C.1 C.2.1 C.2.2.2.2.1 in_X0 tyX0 tyX0_ok nmX0 C.2.2.2.1 C.2.2.2.2.2.1 hP hD hS 0 rfl rfl 9 (by decide) (C.2.2.2.2.1 _ q34) (fun _ h9 => h9) rfl (by decide +kernel) rfl rfl (Nat.le_of_ble_eq_true rfl) hdg (fun H1 locs1 hP1 hD1 hS1 => kk H1 locs1 ls hP1 hD1 hS1 hl)
theorem xg_10 (C : Cx p s m args c D A cc n RX0 (XK tt)) (hdg : decode cc pc = .ok (.getfield 47, 3)) (kk : G p l e R s m args below meth c D A n cells slots Q (XW o q tt (u)) (pc + 3) (L) (.int (u 10 0) :: rest)) : G p l e R s m args below meth c D A n cells slots Q (XW o q tt (u)) (pc) (L) (.ref o :: rest) :=
  fun H locs ls hP hD hS hl => va_get (ci := 0) (v := .int (u 10 0)) (C := RX0) (T := TX0) (N := 18) C.1 C.2.1 C.2.2.2.2.1 in_X0 C.2.2.2.1 C.2.2.2.2.2.1 hP 0 rfl rfl 10 (by decide) (C.2.2.2.2.1 _ q35) (fun _ h9 => h9) rfl hdg (kk H locs ls hP hD hS hl)
theorem xw_10 (x : Int32) : (XW o q tt u).set 0 (o, .inr (0, [.ref (q 0), .ref (q 1), .ref (q 2), .ref (q 3), .ref (q 4), .ref (q 5), .ref (q 6), .ref (q 7), .ref (q 8), .int (u 9 0), .int (u 10 0), .int (u 11 0), .int (u 12 0), .int (u 13 0), .ref (q 14), .ref (q 15), .ref (q 16), .int (u 17 0)].set 10 (.int x))) = XW o q tt (pk u 10 0 x) := rfl
theorem xp_10 (C : Cx p s m args c D A cc n RX0 (XK tt)) {x : Int32} (hdg : decode cc pc = .ok (.putfield 47, 3)) (kk : G p l e R s m args below meth c D A n cells slots Q (XW o q tt (pk u 10 0 x)) (pc + 3) (L) (rest)) : G p l e R s m args below meth c D A n cells slots Q (XW o q tt (u)) (pc) (L) (.int x :: .ref o :: rest) :=
  fun H locs ls hP hD hS hl => va_put (ci := 0) (v := .int x) (ty := .int) (C := RX0) (T := TX0) (N := 18) C.1 C.2.1 C.2.2.2.2.1 in_X0 tyX0 tyX0_ok nmX0 C.2.2.2.1 C.2.2.2.2.2.1 hP hD hS 0 rfl rfl 10 (by decide) (C.2.2.2.2.1 _ q35) (fun _ h9 => h9) rfl (by decide +kernel) rfl rfl (Nat.le_of_ble_eq_true rfl) hdg (fun H1 locs1 hP1 hD1 hS1 => kk H1 locs1 ls hP1 hD1 hS1 hl)
theorem xg_11 (C : Cx p s m args c D A cc n RX0 (XK tt)) (hdg : decode cc pc = .ok (.getfield 51, 3)) (kk : G p l e R s m args below meth c D A n cells slots Q (XW o q tt (u)) (pc + 3) (L) (.int (u 11 0) :: rest)) : G p l e R s m args below meth c D A n cells slots Q (XW o q tt (u)) (pc) (L) (.ref o :: rest) :=
  fun H locs ls hP hD hS hl => va_get (ci := 0) (v := .int (u 11 0)) (C := RX0) (T := TX0) (N := 18) C.1 C.2.1 C.2.2.2.2.1 in_X0 C.2.2.2.1 C.2.2.2.2.2.1 hP 0 rfl rfl 11 (by decide) (C.2.2.2.2.1 _ q36) (fun _ h9 => h9) rfl hdg (kk H locs ls hP hD hS hl)
theorem xw_11 (x : Int32) : (XW o q tt u).set 0 (o, .inr (0, [.ref (q 0), .ref (q 1), .ref (q 2), .ref (q 3), .ref (q 4), .ref (q 5), .ref (q 6), .ref (q 7), .ref (q 8), .int (u 9 0), .int (u 10 0), .int (u 11 0), .int (u 12 0), .int (u 13 0), .ref (q 14), .ref (q 15), .ref (q 16), .int (u 17 0)].set 11 (.int x))) = XW o q tt (pk u 11 0 x) := rfl
theorem xp_11 (C : Cx p s m args c D A cc n RX0 (XK tt)) {x : Int32} (hdg : decode cc pc = .ok (.putfield 51, 3)) (kk : G p l e R s m args below meth c D A n cells slots Q (XW o q tt (pk u 11 0 x)) (pc + 3) (L) (rest)) : G p l e R s m args below meth c D A n cells slots Q (XW o q tt (u)) (pc) (L) (.int x :: .ref o :: rest) :=
  fun H locs ls hP hD hS hl => va_put (ci := 0) (v := .int x) (ty := .int) (C := RX0) (T := TX0) (N := 18) C.1 C.2.1 C.2.2.2.2.1 in_X0 tyX0 tyX0_ok nmX0 C.2.2.2.1 C.2.2.2.2.2.1 hP hD hS 0 rfl rfl 11 (by decide) (C.2.2.2.2.1 _ q36) (fun _ h9 => h9) rfl (by decide +kernel) rfl rfl (Nat.le_of_ble_eq_true rfl) hdg (fun H1 locs1 hP1 hD1 hS1 => kk H1 locs1 ls hP1 hD1 hS1 hl)
theorem xg_12 (C : Cx p s m args c D A cc n RX0 (XK tt)) (hdg : decode cc pc = .ok (.getfield 75, 3)) (kk : G p l e R s m args below meth c D A n cells slots Q (XW o q tt (u)) (pc + 3) (L) (.int (u 12 0) :: rest)) : G p l e R s m args below meth c D A n cells slots Q (XW o q tt (u)) (pc) (L) (.ref o :: rest) :=
  fun H locs ls hP hD hS hl => va_get (ci := 0) (v := .int (u 12 0)) (C := RX0) (T := TX0) (N := 18) C.1 C.2.1 C.2.2.2.2.1 in_X0 C.2.2.2.1 C.2.2.2.2.2.1 hP 0 rfl rfl 12 (by decide) (C.2.2.2.2.1 _ q37) (fun _ h9 => h9) rfl hdg (kk H locs ls hP hD hS hl)
theorem xw_12 (x : Int32) : (XW o q tt u).set 0 (o, .inr (0, [.ref (q 0), .ref (q 1), .ref (q 2), .ref (q 3), .ref (q 4), .ref (q 5), .ref (q 6), .ref (q 7), .ref (q 8), .int (u 9 0), .int (u 10 0), .int (u 11 0), .int (u 12 0), .int (u 13 0), .ref (q 14), .ref (q 15), .ref (q 16), .int (u 17 0)].set 12 (.int x))) = XW o q tt (pk u 12 0 x) := rfl
theorem xp_12 (C : Cx p s m args c D A cc n RX0 (XK tt)) {x : Int32} (hdg : decode cc pc = .ok (.putfield 75, 3)) (kk : G p l e R s m args below meth c D A n cells slots Q (XW o q tt (pk u 12 0 x)) (pc + 3) (L) (rest)) : G p l e R s m args below meth c D A n cells slots Q (XW o q tt (u)) (pc) (L) (.int x :: .ref o :: rest) :=
  fun H locs ls hP hD hS hl => va_put (ci := 0) (v := .int x) (ty := .int) (C := RX0) (T := TX0) (N := 18) C.1 C.2.1 C.2.2.2.2.1 in_X0 tyX0 tyX0_ok nmX0 C.2.2.2.1 C.2.2.2.2.2.1 hP hD hS 0 rfl rfl 12 (by decide) (C.2.2.2.2.1 _ q37) (fun _ h9 => h9) rfl (by decide +kernel) rfl rfl (Nat.le_of_ble_eq_true rfl) hdg (fun H1 locs1 hP1 hD1 hS1 => kk H1 locs1 ls hP1 hD1 hS1 hl)
theorem xg_13 (C : Cx p s m args c D A cc n RX0 (XK tt)) (hdg : decode cc pc = .ok (.getfield 54, 3)) (kk : G p l e R s m args below meth c D A n cells slots Q (XW o q tt (u)) (pc + 3) (L) (.int (u 13 0) :: rest)) : G p l e R s m args below meth c D A n cells slots Q (XW o q tt (u)) (pc) (L) (.ref o :: rest) :=
  fun H locs ls hP hD hS hl => va_get (ci := 0) (v := .int (u 13 0)) (C := RX0) (T := TX0) (N := 18) C.1 C.2.1 C.2.2.2.2.1 in_X0 C.2.2.2.1 C.2.2.2.2.2.1 hP 0 rfl rfl 13 (by decide) (C.2.2.2.2.1 _ q38) (fun _ h9 => h9) rfl hdg (kk H locs ls hP hD hS hl)
theorem xw_13 (x : Int32) : (XW o q tt u).set 0 (o, .inr (0, [.ref (q 0), .ref (q 1), .ref (q 2), .ref (q 3), .ref (q 4), .ref (q 5), .ref (q 6), .ref (q 7), .ref (q 8), .int (u 9 0), .int (u 10 0), .int (u 11 0), .int (u 12 0), .int (u 13 0), .ref (q 14), .ref (q 15), .ref (q 16), .int (u 17 0)].set 13 (.int x))) = XW o q tt (pk u 13 0 x) := rfl
theorem xp_13 (C : Cx p s m args c D A cc n RX0 (XK tt)) {x : Int32} (hdg : decode cc pc = .ok (.putfield 54, 3)) (kk : G p l e R s m args below meth c D A n cells slots Q (XW o q tt (pk u 13 0 x)) (pc + 3) (L) (rest)) : G p l e R s m args below meth c D A n cells slots Q (XW o q tt (u)) (pc) (L) (.int x :: .ref o :: rest) :=
  fun H locs ls hP hD hS hl => va_put (ci := 0) (v := .int x) (ty := .int) (C := RX0) (T := TX0) (N := 18) C.1 C.2.1 C.2.2.2.2.1 in_X0 tyX0 tyX0_ok nmX0 C.2.2.2.1 C.2.2.2.2.2.1 hP hD hS 0 rfl rfl 13 (by decide) (C.2.2.2.2.1 _ q38) (fun _ h9 => h9) rfl (by decide +kernel) rfl rfl (Nat.le_of_ble_eq_true rfl) hdg (fun H1 locs1 hP1 hD1 hS1 => kk H1 locs1 ls hP1 hD1 hS1 hl)
theorem xg_14 (C : Cx p s m args c D A cc n RX0 (XK tt)) (hdg : decode cc pc = .ok (.getfield 38, 3)) (kk : G p l e R s m args below meth c D A n cells slots Q (XW o q tt (u)) (pc + 3) (L) (.ref (q 14) :: rest)) : G p l e R s m args below meth c D A n cells slots Q (XW o q tt (u)) (pc) (L) (.ref o :: rest) :=
  fun H locs ls hP hD hS hl => va_get (ci := 0) (v := .ref (q 14)) (C := RX0) (T := TX0) (N := 18) C.1 C.2.1 C.2.2.2.2.1 in_X0 C.2.2.2.1 C.2.2.2.2.2.1 hP 0 rfl rfl 14 (by decide) (C.2.2.2.2.1 _ q39) (fun _ h9 => h9) rfl hdg (kk H locs ls hP hD hS hl)
theorem xg_15 (C : Cx p s m args c D A cc n RX0 (XK tt)) (hdg : decode cc pc = .ok (.getfield 41, 3)) (kk : G p l e R s m args below meth c D A n cells slots Q (XW o q tt (u)) (pc + 3) (L) (.ref (q 15) :: rest)) : G p l e R s m args below meth c D A n cells slots Q (XW o q tt (u)) (pc) (L) (.ref o :: rest) :=
  fun H locs ls hP hD hS hl => va_get (ci := 0) (v := .ref (q 15)) (C := RX0) (T := TX0) (N := 18) C.1 C.2.1 C.2.2.2.2.1 in_X0 C.2.2.2.1 C.2.2.2.2.2.1 hP 0 rfl rfl 15 (by decide) (C.2.2.2.2.1 _ q40) (fun _ h9 => h9) rfl hdg (kk H locs ls hP hD hS hl)
theorem xg_16 (C : Cx p s m args c D A cc n RX0 (XK tt)) (hdg : decode cc pc = .ok (.getfield 44, 3)) (kk : G p l e R s m args below meth c D A n cells slots Q (XW o q tt (u)) (pc + 3) (L) (.ref (q 16) :: rest)) : G p l e R s m args below meth c D A n cells slots Q (XW o q tt (u)) (pc) (L) (.ref o :: rest) :=
  fun H locs ls hP hD hS hl => va_get (ci := 0) (v := .ref (q 16)) (C := RX0) (T := TX0) (N := 18) C.1 C.2.1 C.2.2.2.2.1 in_X0 C.2.2.2.1 C.2.2.2.2.2.1 hP 0 rfl rfl 16 (by decide) (C.2.2.2.2.1 _ q41) (fun _ h9 => h9) rfl hdg (kk H locs ls hP hD hS hl)
theorem xg_17 (C : Cx p s m args c D A cc n RX0 (XK tt)) (hdg : decode cc pc = .ok (.getfield 89, 3)) (kk : G p l e R s m args below meth c D A n cells slots Q (XW o q tt (u)) (pc + 3) (L) (.int (u 17 0) :: rest)) : G p l e R s m args below meth c D A n cells slots Q (XW o q tt (u)) (pc) (L) (.ref o :: rest) :=
  fun H locs ls hP hD hS hl => va_get (ci := 0) (v := .int (u 17 0)) (C := RX0) (T := TX0) (N := 18) C.1 C.2.1 C.2.2.2.2.1 in_X0 C.2.2.2.1 C.2.2.2.2.2.1 hP 0 rfl rfl 17 (by decide) (C.2.2.2.2.1 _ q42) (fun _ h9 => h9) rfl hdg (kk H locs ls hP hD hS hl)
theorem xw_17 (x : Int32) : (XW o q tt u).set 0 (o, .inr (0, [.ref (q 0), .ref (q 1), .ref (q 2), .ref (q 3), .ref (q 4), .ref (q 5), .ref (q 6), .ref (q 7), .ref (q 8), .int (u 9 0), .int (u 10 0), .int (u 11 0), .int (u 12 0), .int (u 13 0), .ref (q 14), .ref (q 15), .ref (q 16), .int (u 17 0)].set 17 (.int x))) = XW o q tt (pk u 17 0 x) := rfl
theorem xp_17 (C : Cx p s m args c D A cc n RX0 (XK tt)) {x : Int32} (hdg : decode cc pc = .ok (.putfield 89, 3)) (kk : G p l e R s m args below meth c D A n cells slots Q (XW o q tt (pk u 17 0 x)) (pc + 3) (L) (rest)) : G p l e R s m args below meth c D A n cells slots Q (XW o q tt (u)) (pc) (L) (.int x :: .ref o :: rest) :=
  fun H locs ls hP hD hS hl => va_put (ci := 0) (v := .int x) (ty := .int) (C := RX0) (T := TX0) (N := 18) C.1 C.2.1 C.2.2.2.2.1 in_X0 tyX0 tyX0_ok nmX0 C.2.2.2.1 C.2.2.2.2.2.1 hP hD hS 0 rfl rfl 17 (by decide) (C.2.2.2.2.1 _ q42) (fun _ h9 => h9) rfl (by decide +kernel) rfl rfl (Nat.le_of_ble_eq_true rfl) hdg (fun H1 locs1 hP1 hD1 hS1 => kk H1 locs1 ls hP1 hD1 hS1 hl)
theorem xl_0 (C : Cx p s m args c D A cc n RX0 (XK tt)) {i : Int32} (j : Nat) (hi : i = nI j) (hj : j < 8) (hdg : decode cc pc = .ok (.iaload, 1)) (kk : G p l e R s m args below meth c D A n cells slots Q (XW o q tt (u)) (pc + 1) (L) (.int (u 0 j) :: rest)) : G p l e R s m args below meth c D A n cells slots Q (XW o q tt (u)) (pc) (L) (.int i :: .ref (q 0) :: rest) := by
  intro H locs ls hP hD hS hl
  subst hi
  refine va_iald C.1 C.2.1 C.2.2.2.2.2.1 hP 1 0 rfl rfl (vp_in_nI hj (by decide)) hdg ?_
  rw [nI_clamp (by omega)]
  exact kk H locs ls hP hD hS hl
theorem xs_0 (C : Cx p s m args c D A cc n RX0 (XK tt)) {i x : Int32} (j : Nat) (hi : i = nI j) (hj : j < 8) (hdg : decode cc pc = .ok (.iastore, 1)) (kk : G p l e R s m args below meth c D A n cells slots Q (XW o q tt (pk u 0 j (x))) (pc + 1) (L) (rest)) : G p l e R s m args below meth c D A n cells slots Q (XW o q tt (u)) (pc) (L) (.int x :: .int i :: .ref (q 0) :: rest) := by
  intro H locs ls hP hD hS hl
  subst hi
  refine va_iast C.1 C.2.1 C.2.2.2.2.2.1 hP hD hS 1 0 rfl rfl (vp_in_nI hj (by decide)) hdg (fun H1 locs1 hP1 hD1 hS1 => ?_)
  rw [nI_clamp (by omega)] at hP1 hD1
  exact kk H1 locs1 ls hP1 hD1 hS1 hl
theorem xl_1 (C : Cx p s m args c D A cc n RX0 (XK tt)) {i : Int32} (j : Nat) (hi : i = nI j) (hj : j < 8) (hdg : decode cc pc = .ok (.baload, 1)) (kk : G p l e R s m args below meth c D A n cells slots Q (XW o q tt (u)) (pc + 1) (L) (.int (u 1 j) :: rest)) : G p l e R s m args below meth c D A n cells slots Q (XW o q tt (u)) (pc) (L) (.int i :: .ref (q 1) :: rest) := by
  intro H locs ls hP hD hS hl
  subst hi
  refine va_bald C.1 C.2.1 C.2.2.2.2.2.1 hP 2 1 rfl rfl (vp_in_nI hj (by decide)) hdg ?_
  rw [nI_clamp (by omega)]
  exact kk H locs ls hP hD hS hl
theorem xs_1 (C : Cx p s m args c D A cc n RX0 (XK tt)) {i x : Int32} (j : Nat) (hi : i = nI j) (hj : j < 8) (hdg : decode cc pc = .ok (.bastore, 1)) (kk : G p l e R s m args below meth c D A n cells slots Q (XW o q tt (pk u 1 j (b8 x))) (pc + 1) (L) (rest)) : G p l e R s m args below meth c D A n cells slots Q (XW o q tt (u)) (pc) (L) (.int x :: .int i :: .ref (q 1) :: rest) := by
  intro H locs ls hP hD hS hl
  subst hi
  refine va_bast C.1 C.2.1 C.2.2.2.2.2.1 hP hD hS 2 1 rfl rfl (vp_in_nI hj (by decide)) hdg (fun H1 locs1 hP1 hD1 hS1 => ?_)
  rw [nI_clamp (by omega)] at hP1 hD1
  rw [vp_nar_byte] at hP1 hD1
  exact kk H1 locs1 ls hP1 hD1 hS1 hl
theorem xl_2 (C : Cx p s m args c D A cc n RX0 (XK tt)) {i : Int32} (j : Nat) (hi : i = nI j) (hj : j < 8) (hdg : decode cc pc = .ok (.iaload, 1)) (kk : G p l e R s m args below meth c D A n cells slots Q (XW o q tt (u)) (pc + 1) (L) (.int (u 2 j) :: rest)) : G p l e R s m args below meth c D A n cells slots Q (XW o q tt (u)) (pc) (L) (.int i :: .ref (q 2) :: rest) := by
  intro H locs ls hP hD hS hl
  subst hi
  refine va_iald C.1 C.2.1 C.2.2.2.2.2.1 hP 3 2 rfl rfl (vp_in_nI hj (by decide)) hdg ?_
  rw [nI_clamp (by omega)]
  exact kk H locs ls hP hD hS hl
theorem xs_2 (C : Cx p s m args c D A cc n RX0 (XK tt)) {i x : Int32} (j : Nat) (hi : i = nI j) (hj : j < 8) (hdg : decode cc pc = .ok (.iastore, 1)) (kk : G p l e R s m args below meth c D A n cells slots Q (XW o q tt (pk u 2 j (x))) (pc + 1) (L) (rest)) : G p l e R s m args below meth c D A n cells slots Q (XW o q tt (u)) (pc) (L) (.int x :: .int i :: .ref (q 2) :: rest) := by
  intro H locs ls hP hD hS hl
  subst hi
  refine va_iast C.1 C.2.1 C.2.2.2.2.2.1 hP hD hS 3 2 rfl rfl (vp_in_nI hj (by decide)) hdg (fun H1 locs1 hP1 hD1 hS1 => ?_)
  rw [nI_clamp (by omega)] at hP1 hD1
  exact kk H1 locs1 ls hP1 hD1 hS1 hl
theorem xl_3 (C : Cx p s m args c D A cc n RX0 (XK tt)) {i : Int32} (j : Nat) (hi : i = nI j) (hj : j < 24) (hdg : decode cc pc = .ok (.baload, 1)) (kk : G p l e R s m args below meth c D A n cells slots Q (XW o q tt (u)) (pc + 1) (L) (.int (u 3 j) :: rest)) : G p l e R s m args below meth c D A n cells slots Q (XW o q tt (u)) (pc) (L) (.int i :: .ref (q 3) :: rest) := by
  intro H locs ls hP hD hS hl
  subst hi
  refine va_bald C.1 C.2.1 C.2.2.2.2.2.1 hP 4 3 rfl rfl (vp_in_nI hj (by decide)) hdg ?_
  rw [nI_clamp (by omega)]
  exact kk H locs ls hP hD hS hl
theorem xs_3 (C : Cx p s m args c D A cc n RX0 (XK tt)) {i x : Int32} (j : Nat) (hi : i = nI j) (hj : j < 24) (hdg : decode cc pc = .ok (.bastore, 1)) (kk : G p l e R s m args below meth c D A n cells slots Q (XW o q tt (pk u 3 j (b8 x))) (pc + 1) (L) (rest)) : G p l e R s m args below meth c D A n cells slots Q (XW o q tt (u)) (pc) (L) (.int x :: .int i :: .ref (q 3) :: rest) := by
  intro H locs ls hP hD hS hl
  subst hi
  refine va_bast C.1 C.2.1 C.2.2.2.2.2.1 hP hD hS 4 3 rfl rfl (vp_in_nI hj (by decide)) hdg (fun H1 locs1 hP1 hD1 hS1 => ?_)
  rw [nI_clamp (by omega)] at hP1 hD1
  rw [vp_nar_byte] at hP1 hD1
  exact kk H1 locs1 ls hP1 hD1 hS1 hl
theorem xl_4 (C : Cx p s m args c D A cc n RX0 (XK tt)) {i : Int32} (j : Nat) (hi : i = nI j) (hj : j < 24) (hdg : decode cc pc = .ok (.iaload, 1)) (kk : G p l e R s m args below meth c D A n cells slots Q (XW o q tt (u)) (pc + 1) (L) (.int (u 4 j) :: rest)) : G p l e R s m args below meth c D A n cells slots Q (XW o q tt (u)) (pc) (L) (.int i :: .ref (q 4) :: rest) := by
  intro H locs ls hP hD hS hl
  subst hi
  refine va_iald C.1 C.2.1 C.2.2.2.2.2.1 hP 5 4 rfl rfl (vp_in_nI hj (by decide)) hdg ?_
  rw [nI_clamp (by omega)]
  exact kk H locs ls hP hD hS hl
theorem xs_4 (C : Cx p s m args c D A cc n RX0 (XK tt)) {i x : Int32} (j : Nat) (hi : i = nI j) (hj : j < 24) (hdg : decode cc pc = .ok (.iastore, 1)) (kk : G p l e R s m args below meth c D A n cells slots Q (XW o q tt (pk u 4 j (x))) (pc + 1) (L) (rest)) : G p l e R s m args below meth c D A n cells slots Q (XW o q tt (u)) (pc) (L) (.int x :: .int i :: .ref (q 4) :: rest) := by
  intro H locs ls hP hD hS hl
  subst hi
  refine va_iast C.1 C.2.1 C.2.2.2.2.2.1 hP hD hS 5 4 rfl rfl (vp_in_nI hj (by decide)) hdg (fun H1 locs1 hP1 hD1 hS1 => ?_)
  rw [nI_clamp (by omega)] at hP1 hD1
  exact kk H1 locs1 ls hP1 hD1 hS1 hl
theorem xl_5 (C : Cx p s m args c D A cc n RX0 (XK tt)) {i : Int32} (j : Nat) (hi : i = nI j) (hj : j < 24) (hdg : decode cc pc = .ok (.baload, 1)) (kk : G p l e R s m args below meth c D A n cells slots Q (XW o q tt (u)) (pc + 1) (L) (.int (u 5 j) :: rest)) : G p l e R s m args below meth c D A n cells slots Q (XW o q tt (u)) (pc) (L) (.int i :: .ref (q 5) :: rest) := by
  intro H locs ls hP hD hS hl
  subst hi
  refine va_bald C.1 C.2.1 C.2.2.2.2.2.1 hP 6 5 rfl rfl (vp_in_nI hj (by decide)) hdg ?_
  rw [nI_clamp (by omega)]
  exact kk H locs ls hP hD hS hl
theorem xs_5 (C : Cx p s m args c D A cc n RX0 (XK tt)) {i x : Int32} (j : Nat) (hi : i = nI j) (hj : j < 24) (hdg : decode cc pc = .ok (.bastore, 1)) (kk : G p l e R s m args below meth c D A n cells slots Q (XW o q tt (pk u 5 j (b8 x))) (pc + 1) (L) (rest)) : G p l e R s m args below meth c D A n cells slots Q (XW o q tt (u)) (pc) (L) (.int x :: .int i :: .ref (q 5) :: rest) := by
  intro H locs ls hP hD hS hl
  subst hi
  refine va_bast C.1 C.2.1 C.2.2.2.2.2.1 hP hD hS 6 5 rfl rfl (vp_in_nI hj (by decide)) hdg (fun H1 locs1 hP1 hD1 hS1 => ?_)
  rw [nI_clamp (by omega)] at hP1 hD1
  rw [vp_nar_byte] at hP1 hD1
  exact kk H1 locs1 ls hP1 hD1 hS1 hl
theorem xl_6 (C : Cx p s m args c D A cc n RX0 (XK tt)) {i : Int32} (j : Nat) (hi : i = nI j) (hj : j < 24) (hdg : decode cc pc = .ok (.baload, 1)) (kk : G p l e R s m args below meth c D A n cells slots Q (XW o q tt (u)) (pc + 1) (L) (.int (u 6 j) :: rest)) : G p l e R s m args below meth c D A n cells slots Q (XW o q tt (u)) (pc) (L) (.int i :: .ref (q 6) :: rest) := by
  intro H locs ls hP hD hS hl
  subst hi
  refine va_bald C.1 C.2.1 C.2.2.2.2.2.1 hP 7 6 rfl rfl (vp_in_nI hj (by decide)) hdg ?_
  rw [nI_clamp (by omega)]
  exact kk H locs ls hP hD hS hl
theorem xs_6 (C : Cx p s m args c D A cc n RX0 (XK tt)) {i x : Int32} (j : Nat) (hi : i = nI j) (hj : j < 24) (hdg : decode cc pc = .ok (.bastore, 1)) (kk : G p l e R s m args below meth c D A n cells slots Q (XW o q tt (pk u 6 j (b8 x))) (pc + 1) (L) (rest)) : G p l e R s m args below meth c D A n cells slots Q (XW o q tt (u)) (pc) (L) (.int x :: .int i :: .ref (q 6) :: rest) := by
  intro H locs ls hP hD hS hl
  subst hi
  refine va_bast C.1 C.2.1 C.2.2.2.2.2.1 hP hD hS 7 6 rfl rfl (vp_in_nI hj (by decide)) hdg (fun H1 locs1 hP1 hD1 hS1 => ?_)
  rw [nI_clamp (by omega)] at hP1 hD1
  rw [vp_nar_byte] at hP1 hD1
  exact kk H1 locs1 ls hP1 hD1 hS1 hl
theorem xl_7 (C : Cx p s m args c D A cc n RX0 (XK tt)) {i : Int32} (j : Nat) (hi : i = nI j) (hj : j < 24) (hdg : decode cc pc = .ok (.baload, 1)) (kk : G p l e R s m args below meth c D A n cells slots Q (XW o q tt (u)) (pc + 1) (L) (.int (u 7 j) :: rest)) : G p l e R s m args below meth c D A n cells slots Q (XW o q tt (u)) (pc) (L) (.int i :: .ref (q 7) :: rest) := by
  intro H locs ls hP hD hS hl
  subst hi
  refine va_bald C.1 C.2.1 C.2.2.2.2.2.1 hP 8 7 rfl rfl (vp_in_nI hj (by decide)) hdg ?_
  rw [nI_clamp (by omega)]
  exact kk H locs ls hP hD hS hl
theorem xs_7 (C : Cx p s m args c D A cc n RX0 (XK tt)) {i x : Int32} (j : Nat) (hi : i = nI j) (hj : j < 24) (hdg : decode cc pc = .ok (.bastore, 1)) (kk : G p l e R s m args below meth c D A n cells slots Q (XW o q tt (pk u 7 j (b8 x))) (pc + 1) (L) (rest)) : G p l e R s m args below meth c D A n cells slots Q (XW o q tt (u)) (pc) (L) (.int x :: .int i :: .ref (q 7) :: rest) := by
  intro H locs ls hP hD hS hl
  subst hi
  refine va_bast C.1 C.2.1 C.2.2.2.2.2.1 hP hD hS 8 7 rfl rfl (vp_in_nI hj (by decide)) hdg (fun H1 locs1 hP1 hD1 hS1 => ?_)
  rw [nI_clamp (by omega)] at hP1 hD1
  rw [vp_nar_byte] at hP1 hD1
  exact kk H1 locs1 ls hP1 hD1 hS1 hl
theorem xl_8 (C : Cx p s m args c D A cc n RX0 (XK tt)) {i : Int32} (j : Nat) (hi : i = nI j) (hj : j < 24) (hdg : decode cc pc = .ok (.baload, 1)) (kk : G p l e R s m args below meth c D A n cells slots Q (XW o q tt (u)) (pc + 1) (L) (.int (u 8 j) :: rest)) : G p l e R s m args below meth c D A n cells slots Q (XW o q tt (u)) (pc) (L) (.int i :: .ref (q 8) :: rest) := by
  intro H locs ls hP hD hS hl
  subst hi
  refine va_bald C.1 C.2.1 C.2.2.2.2.2.1 hP 9 8 rfl rfl (vp_in_nI hj (by decide)) hdg ?_
  rw [nI_clamp (by omega)]
  exact kk H locs ls hP hD hS hl
theorem xs_8 (C : Cx p s m args c D A cc n RX0 (XK tt)) {i x : Int32} (j : Nat) (hi : i = nI j) (hj : j < 24) (hdg : decode cc pc = .ok (.bastore, 1)) (kk : G p l e R s m args below meth c D A n cells slots Q (XW o q tt (pk u 8 j (b8 x))) (pc + 1) (L) (rest)) : G p l e R s m args below meth c D A n cells slots Q (XW o q tt (u)) (pc) (L) (.int x :: .int i :: .ref (q 8) :: rest) := by
  intro H locs ls hP hD hS hl
  subst hi
  refine va_bast C.1 C.2.1 C.2.2.2.2.2.1 hP hD hS 9 8 rfl rfl (vp_in_nI hj (by decide)) hdg (fun H1 locs1 hP1 hD1 hS1 => ?_)
  rw [nI_clamp (by omega)] at hP1 hD1
  rw [vp_nar_byte] at hP1 hD1
  exact kk H1 locs1 ls hP1 hD1 hS1 hl
theorem xl_14 (C : Cx p s m args c D A cc n RX0 (XK tt)) {i : Int32} (j : Nat) (hi : i = nI j) (hj : j < 32) (hdg : decode cc pc = .ok (.baload, 1)) (kk : G p l e R s m args below meth c D A n cells slots Q (XW o q tt (u)) (pc + 1) (L) (.int (u 14 j) :: rest)) : G p l e R s m args below meth c D A n cells slots Q (XW o q tt (u)) (pc) (L) (.int i :: .ref (q 14) :: rest) := by
  intro H locs ls hP hD hS hl
  subst hi
  refine va_bald C.1 C.2.1 C.2.2.2.2.2.1 hP 10 9 rfl rfl (vp_in_nI hj (by decide)) hdg ?_
  rw [nI_clamp (by omega)]
  exact kk H locs ls hP hD hS hl
theorem xs_14 (C : Cx p s m args c D A cc n RX0 (XK tt)) {i x : Int32} (j : Nat) (hi : i = nI j) (hj : j < 32) (hdg : decode cc pc = .ok (.bastore, 1)) (kk : G p l e R s m args below meth c D A n cells slots Q (XW o q tt (pk u 14 j (b8 x))) (pc + 1) (L) (rest)) : G p l e R s m args below meth c D A n cells slots Q (XW o q tt (u)) (pc) (L) (.int x :: .int i :: .ref (q 14) :: rest) := by
  intro H locs ls hP hD hS hl
  subst hi
  refine va_bast C.1 C.2.1 C.2.2.2.2.2.1 hP hD hS 10 9 rfl rfl (vp_in_nI hj (by decide)) hdg (fun H1 locs1 hP1 hD1 hS1 => ?_)
  rw [nI_clamp (by omega)] at hP1 hD1
  rw [vp_nar_byte] at hP1 hD1
  exact kk H1 locs1 ls hP1 hD1 hS1 hl
theorem xl_15 (C : Cx p s m args c D A cc n RX0 (XK tt)) {i : Int32} (j : Nat) (hi : i = nI j) (hj : j < 32) (hdg : decode cc pc = .ok (.iaload, 1)) (kk : G p l e R s m args below meth c D A n cells slots Q (XW o q tt (u)) (pc + 1) (L) (.int (u 15 j) :: rest)) : G p l e R s m args below meth c D A n cells slots Q (XW o q tt (u)) (pc) (L) (.int i :: .ref (q 15) :: rest) := by
  intro H locs ls hP hD hS hl
  subst hi
  refine va_iald C.1 C.2.1 C.2.2.2.2.2.1 hP 11 10 rfl rfl (vp_in_nI hj (by decide)) hdg ?_
  rw [nI_clamp (by omega)]
  exact kk H locs ls hP hD hS hl
theorem xs_15 (C : Cx p s m args c D A cc n RX0 (XK tt)) {i x : Int32} (j : Nat) (hi : i = nI j) (hj : j < 32) (hdg : decode cc pc = .ok (.iastore, 1)) (kk : G p l e R s m args below meth c D A n cells slots Q (XW o q tt (pk u 15 j (x))) (pc + 1) (L) (rest)) : G p l e R s m args below meth c D A n cells slots Q (XW o q tt (u)) (pc) (L) (.int x :: .int i :: .ref (q 15) :: rest) := by
  intro H locs ls hP hD hS hl
  subst hi
  refine va_iast C.1 C.2.1 C.2.2.2.2.2.1 hP hD hS 11 10 rfl rfl (vp_in_nI hj (by decide)) hdg (fun H1 locs1 hP1 hD1 hS1 => ?_)
  rw [nI_clamp (by omega)] at hP1 hD1
  exact kk H1 locs1 ls hP1 hD1 hS1 hl
theorem xl_16 (C : Cx p s m args c D A cc n RX0 (XK tt)) {i : Int32} (j : Nat) (hi : i = nI j) (hj : j < 4) (hdg : decode cc pc = .ok (.baload, 1)) (kk : G p l e R s m args below meth c D A n cells slots Q (XW o q tt (u)) (pc + 1) (L) (.int (u 16 j) :: rest)) : G p l e R s m args below meth c D A n cells slots Q (XW o q tt (u)) (pc) (L) (.int i :: .ref (q 16) :: rest) := by
  intro H locs ls hP hD hS hl
  subst hi
  refine va_bald C.1 C.2.1 C.2.2.2.2.2.1 hP 12 11 rfl rfl (vp_in_nI hj (by decide)) hdg ?_
  rw [nI_clamp (by omega)]
  exact kk H locs ls hP hD hS hl
theorem xs_16 (C : Cx p s m args c D A cc n RX0 (XK tt)) {i x : Int32} (j : Nat) (hi : i = nI j) (hj : j < 4) (hdg : decode cc pc = .ok (.bastore, 1)) (kk : G p l e R s m args below meth c D A n cells slots Q (XW o q tt (pk u 16 j (b8 x))) (pc + 1) (L) (rest)) : G p l e R s m args below meth c D A n cells slots Q (XW o q tt (u)) (pc) (L) (.int x :: .int i :: .ref (q 16) :: rest) := by
  intro H locs ls hP hD hS hl
  subst hi
  refine va_bast C.1 C.2.1 C.2.2.2.2.2.1 hP hD hS 12 11 rfl rfl (vp_in_nI hj (by decide)) hdg (fun H1 locs1 hP1 hD1 hS1 => ?_)
  rw [nI_clamp (by omega)] at hP1 hD1
  rw [vp_nar_byte] at hP1 hD1
  exact kk H1 locs1 ls hP1 hD1 hS1 hl
end XW_rows
/-! the world of a UndoReaderModel: the object at o, the array of field k at q k (its class tt k); u k: what it holds (a number field: u k 0) -/
def MW (o : Nat) (q : Nat → Nat) (tt : Nat → ClassId) (u : Mem) : va_W := [(o, .inr (1, [.int (u 0 0), .ref (q 1), .ref (q 2), .ref (q 3), .ref (q 4), .ref (q 5), .ref (q 6), .int (u 7 0), .ref (q 8), .ref (q 9), .ref (q 10)])), (q 1, .inl (tt 1, 512, .inl (u 1))), (q 2, .inl (tt 2, 512, .inl (u 2))), (q 3, .inl (tt 3, 512, .inl (u 3))), (q 4, .inl (tt 4, 512, .inl (u 4))), (q 5, .inl (tt 5, 512, .inl (u 5))), (q 6, .inl (tt 6, 512, .inl (u 6))), (q 8, .inl (tt 8, 8, .inl (u 8))), (q 9, .inl (tt 9, 8, .inl (u 9))), (q 10, .inl (tt 10, 8, .inl (u 10)))]
def MK (tt : Nat → ClassId) : List (ClassId × FieldType) := [(tt 1, .int), (tt 2, .int), (tt 3, .int), (tt 4, .int), (tt 5, .int), (tt 6, .boolean), (tt 8, .int), (tt 9, .int), (tt 10, .int)]
theorem MW_obj (o : Nat) (q : Nat → Nat) (tt : Nat → ClassId) (u : Mem) : ∃ fs, (MW o q tt u)[0]? = some (o, .inr (1, fs)) := ⟨_, rfl⟩
section MW_rows
variable {p : Program} {l : Launch} {e : Env} {R : Room} {s : State} {m : MethodId} {args : Array Value} {below : List Frame} {meth : Method} {c : Code} {D : va_G} {A : Nat → Prop} {n : Nat} {cells slots : Nat} {Q : State → Prop} {pc : Nat} {L : List (Option Value)} {rest : List Value} {cc : ByteArray} {o : Nat} {q : Nat → Nat} {tt : Nat → ClassId} {u : Mem}
theorem mg_0 (C : Cx p s m args c D A cc n RX1 (MK tt)) (hdg : decode cc pc = .ok (.getfield 38, 3)) (kk : G p l e R s m args below meth c D A n cells slots Q (MW o q tt (u)) (pc + 3) (L) (.int (u 0 0) :: rest)) : G p l e R s m args below meth c D A n cells slots Q (MW o q tt (u)) (pc) (L) (.ref o :: rest) :=
  fun H locs ls hP hD hS hl => va_get (ci := 1) (v := .int (u 0 0)) (C := RX1) (T := TX1) (N := 11) C.1 C.2.1 C.2.2.2.2.1 in_X1 C.2.2.2.1 C.2.2.2.2.2.1 hP 0 rfl rfl 0 (by decide) (C.2.2.2.2.1 _ q179) (fun _ h9 => h9) rfl hdg (kk H locs ls hP hD hS hl)
theorem mw_0 (x : Int32) : (MW o q tt u).set 0 (o, .inr (1, [.int (u 0 0), .ref (q 1), .ref (q 2), .ref (q 3), .ref (q 4), .ref (q 5), .ref (q 6), .int (u 7 0), .ref (q 8), .ref (q 9), .ref (q 10)].set 0 (.int x))) = MW o q tt (pk u 0 0 x) := rfl
theorem mp_0 (C : Cx p s m args c D A cc n RX1 (MK tt)) {x : Int32} (hdg : decode cc pc = .ok (.putfield 38, 3)) (kk : G p l e R s m args below meth c D A n cells slots Q (MW o q tt (pk u 0 0 x)) (pc + 3) (L) (rest)) : G p l e R s m args below meth c D A n cells slots Q (MW o q tt (u)) (pc) (L) (.int x :: .ref o :: rest) :=
  fun H locs ls hP hD hS hl => va_put (ci := 1) (v := .int x) (ty := .int) (C := RX1) (T := TX1) (N := 11) C.1 C.2.1 C.2.2.2.2.1 in_X1 tyX1 tyX1_ok nmX1 C.2.2.2.1 C.2.2.2.2.2.1 hP hD hS 0 rfl rfl 0 (by decide) (C.2.2.2.2.1 _ q179) (fun _ h9 => h9) rfl (by decide +kernel) rfl rfl (Nat.le_of_ble_eq_true rfl) hdg (fun H1 locs1 hP1 hD1 hS1 => kk H1 locs1 ls hP1 hD1 hS1 hl)
theorem mg_1 (C : Cx p s m args c D A cc n RX1 (MK tt)) (hdg : decode cc pc = .ok (.getfield 7, 3)) (kk : G p l e R s m args below meth c D A n cells slots Q (MW o q tt (u)) (pc + 3) (L) (.ref (q 1) :: rest)) : G p l e R s m args below meth c D A n cells slots Q (MW o q tt (u)) (pc) (L) (.ref o :: rest) :=
  fun H locs ls hP hD hS hl => va_get (ci := 1) (v := .ref (q 1)) (C := RX1) (T := TX1) (N := 11) C.1 C.2.1 C.2.2.2.2.1 in_X1 C.2.2.2.1 C.2.2.2.2.2.1 hP 0 rfl rfl 1 (by decide) (C.2.2.2.2.1 _ q180) (fun _ h9 => h9) rfl hdg (kk H locs ls hP hD hS hl)
theorem mg_2 (C : Cx p s m args c D A cc n RX1 (MK tt)) (hdg : decode cc pc = .ok (.getfield 13, 3)) (kk : G p l e R s m args below meth c D A n cells slots Q (MW o q tt (u)) (pc + 3) (L) (.ref (q 2) :: rest)) : G p l e R s m args below meth c D A n cells slots Q (MW o q tt (u)) (pc) (L) (.ref o :: rest) :=
  fun H locs ls hP hD hS hl => va_get (ci := 1) (v := .ref (q 2)) (C := RX1) (T := TX1) (N := 11) C.1 C.2.1 C.2.2.2.2.1 in_X1 C.2.2.2.1 C.2.2.2.2.2.1 hP 0 rfl rfl 2 (by decide) (C.2.2.2.2.1 _ q181) (fun _ h9 => h9) rfl hdg (kk H locs ls hP hD hS hl)
theorem mg_3 (C : Cx p s m args c D A cc n RX1 (MK tt)) (hdg : decode cc pc = .ok (.getfield 16, 3)) (kk : G p l e R s m args below meth c D A n cells slots Q (MW o q tt (u)) (pc + 3) (L) (.ref (q 3) :: rest)) : G p l e R s m args below meth c D A n cells slots Q (MW o q tt (u)) (pc) (L) (.ref o :: rest) :=
  fun H locs ls hP hD hS hl => va_get (ci := 1) (v := .ref (q 3)) (C := RX1) (T := TX1) (N := 11) C.1 C.2.1 C.2.2.2.2.1 in_X1 C.2.2.2.1 C.2.2.2.2.2.1 hP 0 rfl rfl 3 (by decide) (C.2.2.2.2.1 _ q182) (fun _ h9 => h9) rfl hdg (kk H locs ls hP hD hS hl)
theorem mg_4 (C : Cx p s m args c D A cc n RX1 (MK tt)) (hdg : decode cc pc = .ok (.getfield 19, 3)) (kk : G p l e R s m args below meth c D A n cells slots Q (MW o q tt (u)) (pc + 3) (L) (.ref (q 4) :: rest)) : G p l e R s m args below meth c D A n cells slots Q (MW o q tt (u)) (pc) (L) (.ref o :: rest) :=
  fun H locs ls hP hD hS hl => va_get (ci := 1) (v := .ref (q 4)) (C := RX1) (T := TX1) (N := 11) C.1 C.2.1 C.2.2.2.2.1 in_X1 C.2.2.2.1 C.2.2.2.2.2.1 hP 0 rfl rfl 4 (by decide) (C.2.2.2.2.1 _ q183) (fun _ h9 => h9) rfl hdg (kk H locs ls hP hD hS hl)
theorem mg_5 (C : Cx p s m args c D A cc n RX1 (MK tt)) (hdg : decode cc pc = .ok (.getfield 22, 3)) (kk : G p l e R s m args below meth c D A n cells slots Q (MW o q tt (u)) (pc + 3) (L) (.ref (q 5) :: rest)) : G p l e R s m args below meth c D A n cells slots Q (MW o q tt (u)) (pc) (L) (.ref o :: rest) :=
  fun H locs ls hP hD hS hl => va_get (ci := 1) (v := .ref (q 5)) (C := RX1) (T := TX1) (N := 11) C.1 C.2.1 C.2.2.2.2.1 in_X1 C.2.2.2.1 C.2.2.2.2.2.1 hP 0 rfl rfl 5 (by decide) (C.2.2.2.2.1 _ q184) (fun _ h9 => h9) rfl hdg (kk H locs ls hP hD hS hl)
theorem mg_6 (C : Cx p s m args c D A cc n RX1 (MK tt)) (hdg : decode cc pc = .ok (.getfield 25, 3)) (kk : G p l e R s m args below meth c D A n cells slots Q (MW o q tt (u)) (pc + 3) (L) (.ref (q 6) :: rest)) : G p l e R s m args below meth c D A n cells slots Q (MW o q tt (u)) (pc) (L) (.ref o :: rest) :=
  fun H locs ls hP hD hS hl => va_get (ci := 1) (v := .ref (q 6)) (C := RX1) (T := TX1) (N := 11) C.1 C.2.1 C.2.2.2.2.1 in_X1 C.2.2.2.1 C.2.2.2.2.2.1 hP 0 rfl rfl 6 (by decide) (C.2.2.2.2.1 _ q185) (fun _ h9 => h9) rfl hdg (kk H locs ls hP hD hS hl)
theorem mg_7 (C : Cx p s m args c D A cc n RX1 (MK tt)) (hdg : decode cc pc = .ok (.getfield 60, 3)) (kk : G p l e R s m args below meth c D A n cells slots Q (MW o q tt (u)) (pc + 3) (L) (.int (u 7 0) :: rest)) : G p l e R s m args below meth c D A n cells slots Q (MW o q tt (u)) (pc) (L) (.ref o :: rest) :=
  fun H locs ls hP hD hS hl => va_get (ci := 1) (v := .int (u 7 0)) (C := RX1) (T := TX1) (N := 11) C.1 C.2.1 C.2.2.2.2.1 in_X1 C.2.2.2.1 C.2.2.2.2.2.1 hP 0 rfl rfl 7 (by decide) (C.2.2.2.2.1 _ q186) (fun _ h9 => h9) rfl hdg (kk H locs ls hP hD hS hl)
theorem mw_7 (x : Int32) : (MW o q tt u).set 0 (o, .inr (1, [.int (u 0 0), .ref (q 1), .ref (q 2), .ref (q 3), .ref (q 4), .ref (q 5), .ref (q 6), .int (u 7 0), .ref (q 8), .ref (q 9), .ref (q 10)].set 7 (.int x))) = MW o q tt (pk u 7 0 x) := rfl
theorem mp_7 (C : Cx p s m args c D A cc n RX1 (MK tt)) {x : Int32} (hdg : decode cc pc = .ok (.putfield 60, 3)) (kk : G p l e R s m args below meth c D A n cells slots Q (MW o q tt (pk u 7 0 x)) (pc + 3) (L) (rest)) : G p l e R s m args below meth c D A n cells slots Q (MW o q tt (u)) (pc) (L) (.int x :: .ref o :: rest) :=
  fun H locs ls hP hD hS hl => va_put (ci := 1) (v := .int x) (ty := .int) (C := RX1) (T := TX1) (N := 11) C.1 C.2.1 C.2.2.2.2.1 in_X1 tyX1 tyX1_ok nmX1 C.2.2.2.1 C.2.2.2.2.2.1 hP hD hS 0 rfl rfl 7 (by decide) (C.2.2.2.2.1 _ q186) (fun _ h9 => h9) rfl (by decide +kernel) rfl rfl (Nat.le_of_ble_eq_true rfl) hdg (fun H1 locs1 hP1 hD1 hS1 => kk H1 locs1 ls hP1 hD1 hS1 hl)
theorem mg_8 (C : Cx p s m args c D A cc n RX1 (MK tt)) (hdg : decode cc pc = .ok (.getfield 29, 3)) (kk : G p l e R s m args below meth c D A n cells slots Q (MW o q tt (u)) (pc + 3) (L) (.ref (q 8) :: rest)) : G p l e R s m args below meth c D A n cells slots Q (MW o q tt (u)) (pc) (L) (.ref o :: rest) :=
  fun H locs ls hP hD hS hl => va_get (ci := 1) (v := .ref (q 8)) (C := RX1) (T := TX1) (N := 11) C.1 C.2.1 C.2.2.2.2.1 in_X1 C.2.2.2.1 C.2.2.2.2.2.1 hP 0 rfl rfl 8 (by decide) (C.2.2.2.2.1 _ q187) (fun _ h9 => h9) rfl hdg (kk H locs ls hP hD hS hl)
theorem mg_9 (C : Cx p s m args c D A cc n RX1 (MK tt)) (hdg : decode cc pc = .ok (.getfield 32, 3)) (kk : G p l e R s m args below meth c D A n cells slots Q (MW o q tt (u)) (pc + 3) (L) (.ref (q 9) :: rest)) : G p l e R s m args below meth c D A n cells slots Q (MW o q tt (u)) (pc) (L) (.ref o :: rest) :=
  fun H locs ls hP hD hS hl => va_get (ci := 1) (v := .ref (q 9)) (C := RX1) (T := TX1) (N := 11) C.1 C.2.1 C.2.2.2.2.1 in_X1 C.2.2.2.1 C.2.2.2.2.2.1 hP 0 rfl rfl 9 (by decide) (C.2.2.2.2.1 _ q188) (fun _ h9 => h9) rfl hdg (kk H locs ls hP hD hS hl)
theorem mg_10 (C : Cx p s m args c D A cc n RX1 (MK tt)) (hdg : decode cc pc = .ok (.getfield 35, 3)) (kk : G p l e R s m args below meth c D A n cells slots Q (MW o q tt (u)) (pc + 3) (L) (.ref (q 10) :: rest)) : G p l e R s m args below meth c D A n cells slots Q (MW o q tt (u)) (pc) (L) (.ref o :: rest) :=
  fun H locs ls hP hD hS hl => va_get (ci := 1) (v := .ref (q 10)) (C := RX1) (T := TX1) (N := 11) C.1 C.2.1 C.2.2.2.2.1 in_X1 C.2.2.2.1 C.2.2.2.2.2.1 hP 0 rfl rfl 10 (by decide) (C.2.2.2.2.1 _ q189) (fun _ h9 => h9) rfl hdg (kk H locs ls hP hD hS hl)
theorem ml_1 (C : Cx p s m args c D A cc n RX1 (MK tt)) {i : Int32} (j : Nat) (hi : i = nI j) (hj : j < 512) (hdg : decode cc pc = .ok (.iaload, 1)) (kk : G p l e R s m args below meth c D A n cells slots Q (MW o q tt (u)) (pc + 1) (L) (.int (u 1 j) :: rest)) : G p l e R s m args below meth c D A n cells slots Q (MW o q tt (u)) (pc) (L) (.int i :: .ref (q 1) :: rest) := by
  intro H locs ls hP hD hS hl
  subst hi
  refine va_iald C.1 C.2.1 C.2.2.2.2.2.1 hP 1 0 rfl rfl (vp_in_nI hj (by decide)) hdg ?_
  rw [nI_clamp (by omega)]
  exact kk H locs ls hP hD hS hl
theorem ms_1 (C : Cx p s m args c D A cc n RX1 (MK tt)) {i x : Int32} (j : Nat) (hi : i = nI j) (hj : j < 512) (hdg : decode cc pc = .ok (.iastore, 1)) (kk : G p l e R s m args below meth c D A n cells slots Q (MW o q tt (pk u 1 j (x))) (pc + 1) (L) (rest)) : G p l e R s m args below meth c D A n cells slots Q (MW o q tt (u)) (pc) (L) (.int x :: .int i :: .ref (q 1) :: rest) := by
  intro H locs ls hP hD hS hl
  subst hi
  refine va_iast C.1 C.2.1 C.2.2.2.2.2.1 hP hD hS 1 0 rfl rfl (vp_in_nI hj (by decide)) hdg (fun H1 locs1 hP1 hD1 hS1 => ?_)
  rw [nI_clamp (by omega)] at hP1 hD1
  exact kk H1 locs1 ls hP1 hD1 hS1 hl
theorem ml_2 (C : Cx p s m args c D A cc n RX1 (MK tt)) {i : Int32} (j : Nat) (hi : i = nI j) (hj : j < 512) (hdg : decode cc pc = .ok (.iaload, 1)) (kk : G p l e R s m args below meth c D A n cells slots Q (MW o q tt (u)) (pc + 1) (L) (.int (u 2 j) :: rest)) : G p l e R s m args below meth c D A n cells slots Q (MW o q tt (u)) (pc) (L) (.int i :: .ref (q 2) :: rest) := by
  intro H locs ls hP hD hS hl
  subst hi
  refine va_iald C.1 C.2.1 C.2.2.2.2.2.1 hP 2 1 rfl rfl (vp_in_nI hj (by decide)) hdg ?_
  rw [nI_clamp (by omega)]
  exact kk H locs ls hP hD hS hl
theorem ms_2 (C : Cx p s m args c D A cc n RX1 (MK tt)) {i x : Int32} (j : Nat) (hi : i = nI j) (hj : j < 512) (hdg : decode cc pc = .ok (.iastore, 1)) (kk : G p l e R s m args below meth c D A n cells slots Q (MW o q tt (pk u 2 j (x))) (pc + 1) (L) (rest)) : G p l e R s m args below meth c D A n cells slots Q (MW o q tt (u)) (pc) (L) (.int x :: .int i :: .ref (q 2) :: rest) := by
  intro H locs ls hP hD hS hl
  subst hi
  refine va_iast C.1 C.2.1 C.2.2.2.2.2.1 hP hD hS 2 1 rfl rfl (vp_in_nI hj (by decide)) hdg (fun H1 locs1 hP1 hD1 hS1 => ?_)
  rw [nI_clamp (by omega)] at hP1 hD1
  exact kk H1 locs1 ls hP1 hD1 hS1 hl
theorem ml_3 (C : Cx p s m args c D A cc n RX1 (MK tt)) {i : Int32} (j : Nat) (hi : i = nI j) (hj : j < 512) (hdg : decode cc pc = .ok (.iaload, 1)) (kk : G p l e R s m args below meth c D A n cells slots Q (MW o q tt (u)) (pc + 1) (L) (.int (u 3 j) :: rest)) : G p l e R s m args below meth c D A n cells slots Q (MW o q tt (u)) (pc) (L) (.int i :: .ref (q 3) :: rest) := by
  intro H locs ls hP hD hS hl
  subst hi
  refine va_iald C.1 C.2.1 C.2.2.2.2.2.1 hP 3 2 rfl rfl (vp_in_nI hj (by decide)) hdg ?_
  rw [nI_clamp (by omega)]
  exact kk H locs ls hP hD hS hl
theorem ms_3 (C : Cx p s m args c D A cc n RX1 (MK tt)) {i x : Int32} (j : Nat) (hi : i = nI j) (hj : j < 512) (hdg : decode cc pc = .ok (.iastore, 1)) (kk : G p l e R s m args below meth c D A n cells slots Q (MW o q tt (pk u 3 j (x))) (pc + 1) (L) (rest)) : G p l e R s m args below meth c D A n cells slots Q (MW o q tt (u)) (pc) (L) (.int x :: .int i :: .ref (q 3) :: rest) := by
  intro H locs ls hP hD hS hl
  subst hi
  refine va_iast C.1 C.2.1 C.2.2.2.2.2.1 hP hD hS 3 2 rfl rfl (vp_in_nI hj (by decide)) hdg (fun H1 locs1 hP1 hD1 hS1 => ?_)
  rw [nI_clamp (by omega)] at hP1 hD1
  exact kk H1 locs1 ls hP1 hD1 hS1 hl
theorem ml_4 (C : Cx p s m args c D A cc n RX1 (MK tt)) {i : Int32} (j : Nat) (hi : i = nI j) (hj : j < 512) (hdg : decode cc pc = .ok (.iaload, 1)) (kk : G p l e R s m args below meth c D A n cells slots Q (MW o q tt (u)) (pc + 1) (L) (.int (u 4 j) :: rest)) : G p l e R s m args below meth c D A n cells slots Q (MW o q tt (u)) (pc) (L) (.int i :: .ref (q 4) :: rest) := by
  intro H locs ls hP hD hS hl
  subst hi
  refine va_iald C.1 C.2.1 C.2.2.2.2.2.1 hP 4 3 rfl rfl (vp_in_nI hj (by decide)) hdg ?_
  rw [nI_clamp (by omega)]
  exact kk H locs ls hP hD hS hl
theorem ms_4 (C : Cx p s m args c D A cc n RX1 (MK tt)) {i x : Int32} (j : Nat) (hi : i = nI j) (hj : j < 512) (hdg : decode cc pc = .ok (.iastore, 1)) (kk : G p l e R s m args below meth c D A n cells slots Q (MW o q tt (pk u 4 j (x))) (pc + 1) (L) (rest)) : G p l e R s m args below meth c D A n cells slots Q (MW o q tt (u)) (pc) (L) (.int x :: .int i :: .ref (q 4) :: rest) := by
  intro H locs ls hP hD hS hl
  subst hi
  refine va_iast C.1 C.2.1 C.2.2.2.2.2.1 hP hD hS 4 3 rfl rfl (vp_in_nI hj (by decide)) hdg (fun H1 locs1 hP1 hD1 hS1 => ?_)
  rw [nI_clamp (by omega)] at hP1 hD1
  exact kk H1 locs1 ls hP1 hD1 hS1 hl
theorem ml_5 (C : Cx p s m args c D A cc n RX1 (MK tt)) {i : Int32} (j : Nat) (hi : i = nI j) (hj : j < 512) (hdg : decode cc pc = .ok (.iaload, 1)) (kk : G p l e R s m args below meth c D A n cells slots Q (MW o q tt (u)) (pc + 1) (L) (.int (u 5 j) :: rest)) : G p l e R s m args below meth c D A n cells slots Q (MW o q tt (u)) (pc) (L) (.int i :: .ref (q 5) :: rest) := by
  intro H locs ls hP hD hS hl
  subst hi
  refine va_iald C.1 C.2.1 C.2.2.2.2.2.1 hP 5 4 rfl rfl (vp_in_nI hj (by decide)) hdg ?_
  rw [nI_clamp (by omega)]
  exact kk H locs ls hP hD hS hl
theorem ms_5 (C : Cx p s m args c D A cc n RX1 (MK tt)) {i x : Int32} (j : Nat) (hi : i = nI j) (hj : j < 512) (hdg : decode cc pc = .ok (.iastore, 1)) (kk : G p l e R s m args below meth c D A n cells slots Q (MW o q tt (pk u 5 j (x))) (pc + 1) (L) (rest)) : G p l e R s m args below meth c D A n cells slots Q (MW o q tt (u)) (pc) (L) (.int x :: .int i :: .ref (q 5) :: rest) := by
  intro H locs ls hP hD hS hl
  subst hi
  refine va_iast C.1 C.2.1 C.2.2.2.2.2.1 hP hD hS 5 4 rfl rfl (vp_in_nI hj (by decide)) hdg (fun H1 locs1 hP1 hD1 hS1 => ?_)
  rw [nI_clamp (by omega)] at hP1 hD1
  exact kk H1 locs1 ls hP1 hD1 hS1 hl
theorem ml_6 (C : Cx p s m args c D A cc n RX1 (MK tt)) {i : Int32} (j : Nat) (hi : i = nI j) (hj : j < 512) (hdg : decode cc pc = .ok (.baload, 1)) (kk : G p l e R s m args below meth c D A n cells slots Q (MW o q tt (u)) (pc + 1) (L) (.int (u 6 j) :: rest)) : G p l e R s m args below meth c D A n cells slots Q (MW o q tt (u)) (pc) (L) (.int i :: .ref (q 6) :: rest) := by
  intro H locs ls hP hD hS hl
  subst hi
  refine va_zald C.1 C.2.1 C.2.2.2.2.2.1 hP 6 5 rfl rfl (vp_in_nI hj (by decide)) hdg ?_
  rw [nI_clamp (by omega)]
  exact kk H locs ls hP hD hS hl
theorem ms_6 (C : Cx p s m args c D A cc n RX1 (MK tt)) {i x : Int32} (j : Nat) (hi : i = nI j) (hj : j < 512) (hdg : decode cc pc = .ok (.bastore, 1)) (kk : G p l e R s m args below meth c D A n cells slots Q (MW o q tt (pk u 6 j (b1 x))) (pc + 1) (L) (rest)) : G p l e R s m args below meth c D A n cells slots Q (MW o q tt (u)) (pc) (L) (.int x :: .int i :: .ref (q 6) :: rest) := by
  intro H locs ls hP hD hS hl
  subst hi
  refine va_zast C.1 C.2.1 C.2.2.2.2.2.1 hP hD hS 6 5 rfl rfl (vp_in_nI hj (by decide)) hdg (fun H1 locs1 hP1 hD1 hS1 => ?_)
  rw [nI_clamp (by omega)] at hP1 hD1
  exact kk H1 locs1 ls hP1 hD1 hS1 hl
theorem ml_8 (C : Cx p s m args c D A cc n RX1 (MK tt)) {i : Int32} (j : Nat) (hi : i = nI j) (hj : j < 8) (hdg : decode cc pc = .ok (.iaload, 1)) (kk : G p l e R s m args below meth c D A n cells slots Q (MW o q tt (u)) (pc + 1) (L) (.int (u 8 j) :: rest)) : G p l e R s m args below meth c D A n cells slots Q (MW o q tt (u)) (pc) (L) (.int i :: .ref (q 8) :: rest) := by
  intro H locs ls hP hD hS hl
  subst hi
  refine va_iald C.1 C.2.1 C.2.2.2.2.2.1 hP 7 6 rfl rfl (vp_in_nI hj (by decide)) hdg ?_
  rw [nI_clamp (by omega)]
  exact kk H locs ls hP hD hS hl
theorem ms_8 (C : Cx p s m args c D A cc n RX1 (MK tt)) {i x : Int32} (j : Nat) (hi : i = nI j) (hj : j < 8) (hdg : decode cc pc = .ok (.iastore, 1)) (kk : G p l e R s m args below meth c D A n cells slots Q (MW o q tt (pk u 8 j (x))) (pc + 1) (L) (rest)) : G p l e R s m args below meth c D A n cells slots Q (MW o q tt (u)) (pc) (L) (.int x :: .int i :: .ref (q 8) :: rest) := by
  intro H locs ls hP hD hS hl
  subst hi
  refine va_iast C.1 C.2.1 C.2.2.2.2.2.1 hP hD hS 7 6 rfl rfl (vp_in_nI hj (by decide)) hdg (fun H1 locs1 hP1 hD1 hS1 => ?_)
  rw [nI_clamp (by omega)] at hP1 hD1
  exact kk H1 locs1 ls hP1 hD1 hS1 hl
theorem ml_9 (C : Cx p s m args c D A cc n RX1 (MK tt)) {i : Int32} (j : Nat) (hi : i = nI j) (hj : j < 8) (hdg : decode cc pc = .ok (.iaload, 1)) (kk : G p l e R s m args below meth c D A n cells slots Q (MW o q tt (u)) (pc + 1) (L) (.int (u 9 j) :: rest)) : G p l e R s m args below meth c D A n cells slots Q (MW o q tt (u)) (pc) (L) (.int i :: .ref (q 9) :: rest) := by
  intro H locs ls hP hD hS hl
  subst hi
  refine va_iald C.1 C.2.1 C.2.2.2.2.2.1 hP 8 7 rfl rfl (vp_in_nI hj (by decide)) hdg ?_
  rw [nI_clamp (by omega)]
  exact kk H locs ls hP hD hS hl
theorem ms_9 (C : Cx p s m args c D A cc n RX1 (MK tt)) {i x : Int32} (j : Nat) (hi : i = nI j) (hj : j < 8) (hdg : decode cc pc = .ok (.iastore, 1)) (kk : G p l e R s m args below meth c D A n cells slots Q (MW o q tt (pk u 9 j (x))) (pc + 1) (L) (rest)) : G p l e R s m args below meth c D A n cells slots Q (MW o q tt (u)) (pc) (L) (.int x :: .int i :: .ref (q 9) :: rest) := by
  intro H locs ls hP hD hS hl
  subst hi
  refine va_iast C.1 C.2.1 C.2.2.2.2.2.1 hP hD hS 8 7 rfl rfl (vp_in_nI hj (by decide)) hdg (fun H1 locs1 hP1 hD1 hS1 => ?_)
  rw [nI_clamp (by omega)] at hP1 hD1
  exact kk H1 locs1 ls hP1 hD1 hS1 hl
theorem ml_10 (C : Cx p s m args c D A cc n RX1 (MK tt)) {i : Int32} (j : Nat) (hi : i = nI j) (hj : j < 8) (hdg : decode cc pc = .ok (.iaload, 1)) (kk : G p l e R s m args below meth c D A n cells slots Q (MW o q tt (u)) (pc + 1) (L) (.int (u 10 j) :: rest)) : G p l e R s m args below meth c D A n cells slots Q (MW o q tt (u)) (pc) (L) (.int i :: .ref (q 10) :: rest) := by
  intro H locs ls hP hD hS hl
  subst hi
  refine va_iald C.1 C.2.1 C.2.2.2.2.2.1 hP 9 8 rfl rfl (vp_in_nI hj (by decide)) hdg ?_
  rw [nI_clamp (by omega)]
  exact kk H locs ls hP hD hS hl
theorem ms_10 (C : Cx p s m args c D A cc n RX1 (MK tt)) {i x : Int32} (j : Nat) (hi : i = nI j) (hj : j < 8) (hdg : decode cc pc = .ok (.iastore, 1)) (kk : G p l e R s m args below meth c D A n cells slots Q (MW o q tt (pk u 10 j (x))) (pc + 1) (L) (rest)) : G p l e R s m args below meth c D A n cells slots Q (MW o q tt (u)) (pc) (L) (.int x :: .int i :: .ref (q 10) :: rest) := by
  intro H locs ls hP hD hS hl
  subst hi
  refine va_iast C.1 C.2.1 C.2.2.2.2.2.1 hP hD hS 9 8 rfl rfl (vp_in_nI hj (by decide)) hdg (fun H1 locs1 hP1 hD1 hS1 => ?_)
  rw [nI_clamp (by omega)] at hP1 hD1
  exact kk H1 locs1 ls hP1 hD1 hS1 hl
end MW_rows
end
section
/-! ===== what the methods compute: functions that mirror the Java code, over the memory ===== -/
abbrev bitm (k : Nat) : Int32 := (1 : Int32) <<< (nI k &&& 31)
abbrev r0 : Room := { frames := 0, cells := 0, slots := 0, locals := 0 }
abbrev r1 : Room := { frames := 1, cells := 0, slots := 0, locals := 30 }
abbrev r2 : Room := { frames := 2, cells := 0, slots := 0, locals := 60 }
abbrev r3 : Room := { frames := 3, cells := 0, slots := 0, locals := 90 }
def okN (n : Nat) (x : Int32) : Prop := x = -1 ∨ ∃ j : Nat, j < n ∧ x = nI j
def okP (n : Nat) (x : Int32) : Prop := ∃ j : Nat, j < n ∧ x = nI j
def OKV (k : Nat) (x : Int32) : Prop := match k with
  | 1 => okN 24 x
  | 3 => okP 8 x
  | 5 => okP 32 x
  | 6 => okN 24 x
  | 7 => okN 24 x
  | 8 => okN 24 x
  | 10 => okN 24 x
  | 11 => okN 24 x
  | 16 => okN 32 x
  | _ => True
/-- every index that the memory of an UndoReader holds is in its range -/
def WF (u : Mem) : Prop := ∀ k i : Nat, OKV k (u k i)
theorem WF_pk {u : Mem} {k i : Nat} {x : Int32} (h : WF u) (hx : OKV k x) : WF (pk u k i x) := by
  intro k' i'
  unfold pk upd
  split
  · rename_i e
    subst e
    by_cases hi : i' = i
    · simp only [hi, if_true]; exact hx
    · simp only [hi, if_false]; exact h k' i'
  · exact h k' i'
theorem nI_n0 {j : Nat} (h : j < 2 ^ 31) : ¬ nI j < 0 := nI_pos h
theorem ix_nI {j : Nat} (h : j < 2 ^ 31) : ix (nI j) = j := nI_clamp h
theorem okP.ix {n : Nat} {x : Int32} (h : okP n x) (hn : n ≤ 512) : x = nI (x.toNatClampNeg) ∧ x.toNatClampNeg < n := by
  obtain ⟨j, hj, rfl⟩ := h
  rw [nI_clamp (by omega)]
  exact ⟨rfl, hj⟩
theorem okN.ix {n : Nat} {x : Int32} (h : okN n x) (hn : n ≤ 512) (h0 : ¬ x < 0) : x = nI (x.toNatClampNeg) ∧ x.toNatClampNeg < n := by
  rcases h with rfl | h
  · exact absurd (by decide) h0
  · exact okP.ix h hn
theorem okP.N {n : Nat} {x : Int32} (h : okP n x) : okN n x := Or.inr h
theorem inc1 (i : Nat) : nI i + Int32.ofInt 1 = nI (i + 1) := by
  rw [show Int32.ofInt 1 = 1 from by decide]
  exact nI_1 i
theorem dec1 (i : Nat) : nI (i + 1) + Int32.ofInt (-1) = nI i := by
  rw [show Int32.ofInt (-1) = -1 from by decide]
  exact pk_m1 i
theorem b8_b8 (x : Int32) : b8 (b8 x) = b8 x := by
  unfold b8
  rw [← vp_nar_byte (x.toInt8.toInt32)]
  exact pk_vb x
theorem b8_nI : ∀ j : Nat, j < 128 → b8 (nI j) = nI j := by decide +kernel
theorem b8_m1 : b8 (-1) = -1 := by decide
theorem b8_0 : b8 0 = 0 := by decide
theorem okN_b8 {n : Nat} {x : Int32} (h : okN n x) (hn : n ≤ 128) : b8 x = x := by
  rcases h with rfl | ⟨j, hj, rfl⟩
  · exact b8_m1
  · exact b8_nI j (by omega)
theorem okN_b8b8 {n : Nat} {x : Int32} (h : okN n x) (hn : n ≤ 128) : okN n (b8 (b8 x)) := by
  rw [b8_b8, okN_b8 h hn]
  exact h
-- ----- UndoReader -----
def sessF (x : Int32) : Int32 := if x < 0 then 0 else if nI 4 ≤ x then 0 else 1
def rowF (x : Int32) : Int32 := if x < 0 then 0 else if nI 8 ≤ x then 0 else 1
def freeF (t : Int32) : Nat → Nat → Nat
  | 0, _ => 0
  | n + 1, p => if ((t.toUInt32 >>> ((nI p).toUInt32 &&& Int32.toUInt32 31)).toInt32 &&& 1) = 0 then p else freeF t n (p + 1)
def isOpenF (u : Mem) (p : Nat) : Int32 := if u 15 p = 0 then 1 else 0
def openF (u : Mem) (x : Nat) : Mem :=
  let p := freeF (u 13 0) 32 0
  pk (pk (pk (pk u 13 0 (u 13 0 ||| bitm p)) 14 p (b8 0)) 15 p 0) 16 x (b8 (b8 (nI p)))
def lockF (u : Mem) (r : Nat) : Int32 := if u 1 r < 0 then -1 else if isOpenF u (ix (u 5 (ix (u 1 r)))) = 0 then -1 else u 5 (ix (u 1 r))
def slotF (w : Int32) : Nat → Nat → Nat
  | 0, c => c
  | n + 1, c => if ((w >>> (nI c &&& 31)) &&& 1) = 0 then c else slotF w n (c + 1)
def note1F (u : Mem) (r p c : Nat) : Mem :=
  let u1 := pk u 9 0 (u 9 0 ||| bitm c)
  let u2 := pk u1 3 c (b8 (b8 (nI r)))
  let u3 := pk u2 4 c (u2 0 r)
  let u4 := pk u3 5 c (b8 (b8 (nI p)))
  let u5 := pk u4 14 p (b8 (b8 (u4 14 p + 1)))
  let u6 := pk u5 6 c (b8 (u5 1 r))
  let u7 := pk u6 1 r (b8 (b8 (nI c)))
  let u8 := pk u7 7 c (b8 (b8 (u7 11 0)))
  pk u8 8 c (b8 (-1))
def note2F (u : Mem) (c : Nat) : Mem := if u 11 0 < 0 then pk u 10 0 (nI c) else pk u 8 (ix (u 11 0)) (b8 (b8 (nI c)))
def note3F (u : Mem) (c : Nat) : Mem :=
  let u1 := pk u 11 0 (nI c)
  pk u1 12 0 (u1 12 0 + 1)
def noteF (u : Mem) (r p : Nat) : Mem :=
  let c := slotF (u 9 0) 23 0
  note3F (note2F (note1F u r p c) c) c
def unl1F (u : Mem) (older newer : Int32) : Mem := if older < 0 then pk u 10 0 newer else pk u 8 (ix older) (b8 (b8 newer))
def unl2F (u : Mem) (older newer : Int32) : Mem := if newer < 0 then pk u 11 0 older else pk u 7 (ix newer) (b8 (b8 older))
def unl3F (u : Mem) (c : Nat) : Mem :=
  let u1 := pk u 9 0 (u 9 0 &&& (bitm c ^^^ (-1)))
  let u2 := pk u1 12 0 (u1 12 0 - 1)
  let p := ix (u2 5 c)
  let u3 := pk u2 14 p (b8 (b8 (u2 14 p - 1)))
  if u3 14 p = 0 then (if isOpenF u3 p = 0 then pk u3 13 0 (u3 13 0 &&& (((1 : Int32) <<< (u2 5 c &&& 31)) ^^^ (-1))) else u3) else u3
def unlinkF (u : Mem) (c : Nat) : Mem := unl3F (unl2F (unl1F u (u 7 c) (u 8 c)) (u 7 c) (u 8 c)) c
def fgLoop (c : Nat) : Nat → Nat → Mem → Mem
  | 0, _, u => u
  | n + 1, d, u => fgLoop c n (d + 1) (if ((u 9 0 >>> (nI d &&& 31)) &&& 1) = 0 then u else if u 6 d = nI c then pk u 6 d (b8 (-1)) else u)
def fg1F (u : Mem) (r : Nat) (num : Int32) : Mem := if num ≤ u 2 r then u else pk u 2 r num
def fg2F (u : Mem) (r c : Nat) : Mem := if u 1 r = nI c then pk u 1 r (b8 (-1)) else u
def forgetF (u : Mem) : Mem :=
  let c := ix (u 10 0)
  let r := ix (u 3 c)
  unlinkF (fgLoop c 24 0 (fg2F (fg1F u r (u 15 (ix (u 5 c)))) r c)) c
def chg1F (u : Mem) : Mem := if u 12 0 = nI 24 then forgetF u else u
def chg2F (u : Mem) (x : Nat) : Mem := if 0 ≤ u 16 x then u else openF u x
def chg3F (u : Mem) (x r : Nat) (v : Int32) : Mem := pk (noteF u r (ix (u 16 x))) 0 r v
def changeF (u : Mem) (x r v : Int32) : Int32 × Mem :=
  if sessF x = 0 then (-1, u) else if rowF r = 0 then (-1, u) else
  if ¬ lockF u (ix r) < 0 ∧ ¬ lockF u (ix r) = u 16 (ix x) then (-2, u) else
  if u 12 0 = nI 24 ∧ ¬ isOpenF u (ix (u 5 (ix (u 10 0)))) = 0 then (-3, u) else
  (0, chg3F (chg2F (chg1F u) (ix x)) (ix x) (ix r) v)
def commit1F (u : Mem) (j : Nat) : Mem :=
  let u1 := pk u 17 0 (u 17 0 + 1)
  let u2 := pk u1 15 (ix (u1 16 j)) (u1 17 0)
  pk u2 16 j (b8 (-1))
def commitF (u : Mem) (x : Int32) : Int32 × Mem :=
  if sessF x = 0 then (-4, u) else if u 16 (ix x) < 0 then (-4, u) else (commit1F u (ix x) 17 0, commit1F u (ix x))
def popF (u : Mem) (r : Nat) : Mem :=
  let c := ix (u 1 r)
  let u1 := pk u 0 r (u 4 c)
  let u2 := pk u1 1 r (b8 (u1 6 c))
  unlinkF u2 c
def rbIn (p : Int32) (r : Nat) : Nat → Mem → Mem
  | 0, u => u
  | n + 1, u => if u 1 r < 0 then u else if u 5 (ix (u 1 r)) = p then rbIn p r n (popF u r) else u
def rbOut (p : Int32) : Nat → Nat → Mem → Mem
  | 0, _, u => u
  | n + 1, r, u => rbOut p n (r + 1) (rbIn p r 24 u)
def roll2F (u : Mem) (j : Nat) (p : Int32) : Mem := pk (pk u 13 0 (u 13 0 &&& (((1 : Int32) <<< (p &&& 31)) ^^^ (-1)))) 16 j (b8 (-1))
def roll1F (u : Mem) (j : Nat) : Mem := roll2F (rbOut (u 16 j) 8 0 u) j (u 16 j)
def rollF (u : Mem) (x : Int32) : Int32 × Mem :=
  if sessF x = 0 then (-4, u) else if u 16 (ix x) < 0 then (-4, u) else (0, roll1F u (ix x))
def isAfterF (u : Mem) (c : Nat) (s : Int32) : Int32 := if isOpenF u (ix (u 5 c)) = 0 then (if u 15 (ix (u 5 c)) ≤ s then 0 else 1) else 1
def seenL (u : Mem) (s : Int32) : Nat → Int32 → Int32 → Int32
  | 0, v, _ => v
  | n + 1, v, c => if c < 0 then v else if isAfterF u (ix c) s = 0 then v else seenL u s n (u 4 (ix c)) (u 6 (ix c))
def seenF (u : Mem) (r : Nat) (s : Int32) : Int32 := if u 2 r ≤ s then seenL u s 24 (u 0 r) (u 1 r) else -2000000000
def readF (u : Mem) (x r s : Int32) : Int32 :=
  if sessF x = 0 then -1 else if rowF r = 0 then -1 else if s < 0 then -1 else if s ≤ u 17 0 then
    (if lockF u (ix r) < 0 then seenF u (ix r) s else if lockF u (ix r) = u 16 (ix x) then u 0 (ix r) else seenF u (ix r) s) else -1
def rawF (u : Mem) (r : Int32) : Int32 := if rowF r = 0 then 0 else u 0 (ix r)
def holdL (u : Mem) (lock : Int32) : Nat → Nat → Int32
  | 0, _ => -4
  | n + 1, x => if lock < 0 then holdL u lock n (x + 1) else if u 16 x = lock then nI x else holdL u lock n (x + 1)
def holderF (u : Mem) (r : Int32) : Int32 := if rowF r = 0 then -4 else holdL u (lockF u (ix r)) 4 0
def lockStep (u : Mem) (x : Int32) (r : Nat) (set : Int32) : Int32 := if sessF x = 0 then set else if lockF u r < 0 then set else if lockF u r = u 16 (ix x) then set ||| bitm r else set
def lockL (u : Mem) (x : Int32) : Nat → Nat → Int32 → Int32
  | 0, _, set => set
  | n + 1, r, set => lockL u x n (r + 1) (lockStep u x r set)
def changesF (u : Mem) (x : Int32) : Int32 := if sessF x = 0 then 0 else if u 16 (ix x) < 0 then 0 else u 14 (ix (u 16 (ix x)))
def oldestF (u : Mem) (r : Int32) : Int32 := if rowF r = 0 then -1 else u 2 (ix r)
def chsStep (u : Mem) (s : Int32) (r : Nat) (set : Int32) : Int32 := set ||| (if s < u 2 r then 0 else if seenF u r s = seenF u r (u 17 0) then 0 else bitm r)
def chsL (u : Mem) (s : Int32) : Nat → Nat → Int32 → Int32
  | 0, _, set => set
  | n + 1, r, set => chsL u s n (r + 1) (chsStep u s r set)
def chsF (u : Mem) (s : Int32) : Int32 := if s < 0 then 0 else if s ≤ u 17 0 then chsL u s 8 0 0 else 0
theorem sess_of {x : Int32} (h : ¬ sessF x = 0) : ∃ j : Nat, j < 4 ∧ x = nI j := by
  unfold sessF at h
  split at h
  · exact absurd rfl h
  · rename_i h0
    split at h
    · exact absurd rfl h
    · rename_i h4
      obtain ⟨j, hj, rfl⟩ := nI_of h0
      exact ⟨j, Nat.lt_of_not_le (fun q => h4 (nI_le q hj)), rfl⟩
theorem row_of {x : Int32} (h : ¬ rowF x = 0) : ∃ j : Nat, j < 8 ∧ x = nI j := by
  unfold rowF at h
  split at h
  · exact absurd rfl h
  · rename_i h0
    split at h
    · exact absurd rfl h
    · rename_i h4
      obtain ⟨j, hj, rfl⟩ := nI_of h0
      exact ⟨j, Nat.lt_of_not_le (fun q => h4 (nI_le q hj)), rfl⟩
theorem freeF_lt (t : Int32) : ∀ n p : Nat, n + p = 32 → freeF t n p < 32
  | 0, p, _ => by unfold freeF; decide
  | n + 1, p, h => by
    unfold freeF
    split
    · omega
    · exact freeF_lt t n (p + 1) (by omega)
theorem slotF_lt (t : Int32) : ∀ n p : Nat, n + p = 23 → slotF t n p < 24
  | 0, p, h => by unfold slotF; omega
  | n + 1, p, h => by
    unfold slotF
    split
    · omega
    · exact slotF_lt t n (p + 1) (by omega)
theorem okN_b8' {n : Nat} {x : Int32} (h : okN n x) (hn : n ≤ 128) : okN n (b8 x) := by
  rw [okN_b8 h hn]
  exact h
theorem okN_m1 {n : Nat} : okN n (b8 (-1)) := Or.inl b8_m1
theorem okP_b8 {n j : Nat} (h : j < n) (hn : n ≤ 128) : okP n (b8 (b8 (nI j))) := ⟨j, h, by rw [b8_b8, b8_nI j (by omega)]⟩
theorem WF_unl1 {u : Mem} {a b : Int32} (W : WF u) (hb : okN 24 b) : WF (unl1F u a b) := by
  unfold unl1F
  split
  · exact WF_pk W hb
  · exact WF_pk W (okN_b8b8 hb (by decide))
theorem WF_unl2 {u : Mem} {a b : Int32} (W : WF u) (ha : okN 24 a) : WF (unl2F u a b) := by
  unfold unl2F
  split
  · exact WF_pk W ha
  · exact WF_pk W (okN_b8b8 ha (by decide))
theorem WF_unl3 {u : Mem} {c : Nat} (W : WF u) : WF (unl3F u c) := by
  have h3 : WF (pk (pk u 9 0 (u 9 0 &&& (bitm c ^^^ (-1)))) 12 0 (pk u 9 0 (u 9 0 &&& (bitm c ^^^ (-1))) 12 0 - 1)) := WF_pk (WF_pk W trivial) trivial
  unfold unl3F
  dsimp only
  split
  · split
    · exact WF_pk (WF_pk h3 trivial) trivial
    · exact WF_pk h3 trivial
  · exact WF_pk h3 trivial
theorem WF_unlink {u : Mem} (W : WF u) (c : Nat) : WF (unlinkF u c) := WF_unl3 (WF_unl2 (WF_unl1 W (W 8 c)) (W 7 c))
theorem WF_fgLoop (c : Nat) : ∀ (n d : Nat) (u : Mem), WF u → WF (fgLoop c n d u)
  | 0, _, u, W => W
  | n + 1, d, u, W => by
    unfold fgLoop
    refine WF_fgLoop c n (d + 1) _ ?_
    split
    · exact W
    · split
      · exact WF_pk W okN_m1
      · exact W
theorem WF_forget {u : Mem} (W : WF u) : WF (forgetF u) := by
  refine WF_unlink (WF_fgLoop _ _ _ _ ?_) _
  have h1 : WF (fg1F u (ix (u 3 (ix (u 10 0)))) (u 15 (ix (u 5 (ix (u 10 0)))))) := by
    unfold fg1F
    split
    · exact W
    · exact WF_pk W trivial
  unfold fg2F
  split
  · exact WF_pk h1 okN_m1
  · exact h1
theorem WF_open {u : Mem} (W : WF u) (x : Nat) : WF (openF u x) :=
  WF_pk (WF_pk (WF_pk (WF_pk W trivial) trivial) trivial) (okP.N (okP_b8 (freeF_lt _ 32 0 rfl) (by decide)))
theorem open_16 (u : Mem) (x : Nat) : openF u x 16 x = nI (freeF (u 13 0) 32 0) := by
  show (if x = x then b8 (b8 (nI (freeF (u 13 0) 32 0))) else _) = _
  rw [if_pos rfl, b8_b8, b8_nI _ (Nat.lt_of_lt_of_le (freeF_lt _ 32 0 rfl) (by decide))]
theorem open_16n (u : Mem) (x : Nat) : ¬ openF u x 16 x < 0 := by
  rw [open_16]
  exact nI_pos (Nat.lt_of_lt_of_le (freeF_lt _ 32 0 rfl) (by decide))
theorem WF_note {u : Mem} (W : WF u) {r p : Nat} (hr : r < 8) (hp : p < 32) : WF (noteF u r p) := by
  have hc : slotF (u 9 0) 23 0 < 24 := slotF_lt _ 23 0 rfl
  have h1 : WF (note1F u r p (slotF (u 9 0) 23 0)) := WF_pk (WF_pk (WF_pk (WF_pk (WF_pk (WF_pk (WF_pk (WF_pk (WF_pk W trivial) (okP_b8 hr (by decide))) trivial) (okP_b8 hp (by decide))) trivial) (okN_b8' (W 1 r) (by decide))) (okP.N (okP_b8 hc (by decide)))) (okN_b8b8 (W 11 0) (by decide))) okN_m1
  have h2 : WF (note2F (note1F u r p (slotF (u 9 0) 23 0)) (slotF (u 9 0) 23 0)) := by
    unfold note2F
    split
    · exact WF_pk h1 (Or.inr ⟨_, hc, rfl⟩)
    · exact WF_pk h1 (okP.N (okP_b8 hc (by decide)))
  exact WF_pk (WF_pk h2 (Or.inr ⟨_, hc, rfl⟩)) trivial
theorem WF_pop1 {u : Mem} (W : WF u) (r : Nat) : WF (pk (pk u 0 r (u 4 (ix (u 1 r)))) 1 r (b8 (pk u 0 r (u 4 (ix (u 1 r))) 6 (ix (u 1 r))))) :=
  WF_pk (WF_pk W trivial) (okN_b8' (W 6 (ix (u 1 r))) (by decide))
theorem WF_pop {u : Mem} (W : WF u) (r : Nat) : WF (popF u r) := WF_unlink (WF_pop1 W r) _
theorem WF_rbIn (p : Int32) (r : Nat) : ∀ (n : Nat) (u : Mem), WF u → WF (rbIn p r n u)
  | 0, u, W => W
  | n + 1, u, W => by
    unfold rbIn
    split
    · exact W
    · split
      · exact WF_rbIn p r n _ (WF_pop W r)
      · exact W
theorem WF_rbOut (p : Int32) : ∀ (n r : Nat) (u : Mem), WF u → WF (rbOut p n r u)
  | 0, _, u, W => W
  | n + 1, r, u, W => WF_rbOut p n (r + 1) _ (WF_rbIn p r 24 u W)
end
section
/-! ===== UndoReader: its small methods, unlink ===== -/
set_option maxRecDepth 100000 in
theorem mX_isSession (x : Int32) : Ms yX0_isSession cX0_isSession 1 .boolean r0 [.int x] (fun r => r = sessF x) := by
  refine Ms.start 0 (by decide) (Nat.le_of_ble_eq_true rfl) rfl (List.forall_mem_cons.mpr ⟨rfl, fun _ h => absurd h List.not_mem_nil⟩) ?_
  intro p l e s m below meth c ls hx hb hr hlk hl
  have h0 := (hl.2.2 0 (.int x) rfl).1
  refine lv_iload_n hx hb dX0_isSession_0 rfl h0 ?_
  refine lv_if_lt (tgt := 13) hx hb dX0_isSession_1 (by decide) (fun h => ?_) (fun h => ?_)
  · refine lv_iconst (v := 0) hx hb dX0_isSession_13 (by decide) ?_
    exact W.zret (v := 0) hx hb hr rfl (fun t ht hW => ⟨⟨0, (), rfl, by simp [sessF, h], trivial⟩, va_S.rf.F ht⟩) (fun q h => by cases h) dX0_isSession_14 hlk
  · refine lv_iload_n hx hb dX0_isSession_4 rfl h0 ?_
    refine lv_iconst (v := nI 4) hx hb dX0_isSession_5 (by decide) ?_
    refine lv_icmp_ge (tgt := 13) hx hb dX0_isSession_6 (by decide) (fun h1 => ?_) (fun h1 => ?_)
    · refine lv_iconst (v := 0) hx hb dX0_isSession_13 (by decide) ?_
      exact W.zret (v := 0) hx hb hr rfl (fun t ht hW => ⟨⟨0, (), rfl, by simp [sessF, h1], trivial⟩, va_S.rf.F ht⟩) (fun q h => by cases h) dX0_isSession_14 hlk
    · refine lv_iconst (v := 1) hx hb dX0_isSession_9 (by decide) ?_
      refine lv_goto (tgt := 14) hx hb dX0_isSession_10 (by decide) ?_
      exact W.zret (v := 1) hx hb hr rfl (fun t ht hW => ⟨⟨1, (), rfl, by simp [sessF, h, h1], trivial⟩, va_S.rf.F ht⟩) (fun q h => by cases h) dX0_isSession_14 hlk
set_option maxRecDepth 100000 in
theorem mX_isRow (x : Int32) : Ms yX0_isRow cX0_isRow 1 .boolean r0 [.int x] (fun r => r = rowF x) := by
  refine Ms.start 0 (by decide) (Nat.le_of_ble_eq_true rfl) rfl (List.forall_mem_cons.mpr ⟨rfl, fun _ h => absurd h List.not_mem_nil⟩) ?_
  intro p l e s m below meth c ls hx hb hr hlk hl
  have h0 := (hl.2.2 0 (.int x) rfl).1
  refine lv_iload_n hx hb dX0_isRow_0 rfl h0 ?_
  refine lv_if_lt (tgt := 14) hx hb dX0_isRow_1 (by decide) (fun h => ?_) (fun h => ?_)
  · refine lv_iconst (v := 0) hx hb dX0_isRow_14 (by decide) ?_
    exact W.zret (v := 0) hx hb hr rfl (fun t ht hW => ⟨⟨0, (), rfl, by simp [rowF, h], trivial⟩, va_S.rf.F ht⟩) (fun q h => by cases h) dX0_isRow_15 hlk
  · refine lv_iload_n hx hb dX0_isRow_4 rfl h0 ?_
    refine lv_bipush (v := nI 8) hx hb dX0_isRow_5 (by decide) ?_
    refine lv_icmp_ge (tgt := 14) hx hb dX0_isRow_7 (by decide) (fun h1 => ?_) (fun h1 => ?_)
    · refine lv_iconst (v := 0) hx hb dX0_isRow_14 (by decide) ?_
      exact W.zret (v := 0) hx hb hr rfl (fun t ht hW => ⟨⟨0, (), rfl, by simp [rowF, h1], trivial⟩, va_S.rf.F ht⟩) (fun q h => by cases h) dX0_isRow_15 hlk
    · refine lv_iconst (v := 1) hx hb dX0_isRow_10 (by decide) ?_
      refine lv_goto (tgt := 15) hx hb dX0_isRow_11 (by decide) ?_
      exact W.zret (v := 1) hx hb hr rfl (fun t ht hW => ⟨⟨1, (), rfl, by simp [rowF, h, h1], trivial⟩, va_S.rf.F ht⟩) (fun q h => by cases h) dX0_isRow_15 hlk
set_option maxHeartbeats 4000000 in
set_option maxRecDepth 100000 in
theorem mX_isOpen {D : va_G} {o : Nat} {q : Nat → Nat} {tt : Nat → ClassId} {u : Mem} {i : Int32} (k : Nat) (hi : i = nI k) (hk : k < 32) : Mi D (XK tt) o (XW o q tt) yX0_isOpen cX0_isOpen 2 .boolean r0 [.int i] u (fun r u' => r = isOpenF u k ∧ u = u') := by
  refine Mi.start 0 (by decide) (Nat.le_of_ble_eq_true rfl) rfl (List.forall_mem_cons.mpr ⟨rfl, List.forall_mem_cons.mpr ⟨rfl, fun _ h => absurd h List.not_mem_nil⟩⟩) ?_
  intro p l e s m args below meth c A Q C RT
  refine g_aload_n C dX0_isOpen_0 rfl ?_
  refine xg_15 C dX0_isOpen_1 ?_
  refine g_iload_n C dX0_isOpen_4 rfl ?_
  refine xl_15 C (k) (hi) (hk) dX0_isOpen_5 ?_
  refine g_if_ne C 13 dX0_isOpen_6 (by decide) (fun h => ?_) (fun h => ?_)
  · refine g_iconst C (0) dX0_isOpen_13 (by decide) ?_
    exact RT dX0_isOpen_14 rfl (⟨by simp [isOpenF, h], rfl⟩)
  · refine g_iconst C (1) dX0_isOpen_9 (by decide) ?_
    refine g_goto C 14 dX0_isOpen_10 (by decide) ?_
    exact RT dX0_isOpen_14 rfl (⟨by simp [isOpenF, h], rfl⟩)
set_option maxHeartbeats 4000000 in
set_option maxRecDepth 100000 in
theorem mX_freePlace {D : va_G} {o : Nat} {q : Nat → Nat} {tt : Nat → ClassId} {u : Mem} : Mi D (XK tt) o (XW o q tt) yX0_freePlace cX0_freePlace 2 .int r0 [] u (fun r u' => r = nI (freeF (u 13 0) 32 0) ∧ u = u') := by
  refine Mi.start 1 (by decide) (Nat.le_of_ble_eq_true rfl) rfl (List.forall_mem_cons.mpr ⟨rfl, fun _ h => absurd h List.not_mem_nil⟩) ?_
  intro p l e s m args below meth c A Q C RT
  obtain ⟨T, hT⟩ : ∃ T, T = freeF (u 13 0) 32 0 := ⟨_, rfl⟩
  rw [← hT] at RT
  have loop : ∀ (k i : Nat), k + i = 32 → freeF (u 13 0) k i = T → G p l e r0 s m args below meth c D A 2 0 0 Q (XW o q tt (u)) 2 [some (.ref o), some (.int (nI i))] [] := by
    intro k
    induction k with
    | zero =>
      intro i hi he
      refine g_iload_n C dX0_freePlace_2 rfl ?_
      refine g_bipush C (nI 32) dX0_freePlace_3 (by decide) ?_
      refine g_icmp_ge C 27 dX0_freePlace_5 (by decide) (fun h => ?_) (fun h => ?_)
      · refine g_iconst C (0) dX0_freePlace_27 (by decide) ?_
        exact RT dX0_freePlace_28 rfl (⟨by rw [← he]; rfl, rfl⟩)
      · exact absurd (nI_le (by omega) (by omega)) h
    | succ k ih =>
      intro i hi he
      unfold freeF at he
      refine g_iload_n C dX0_freePlace_2 rfl ?_
      refine g_bipush C (nI 32) dX0_freePlace_3 (by decide) ?_
      refine g_icmp_ge C 27 dX0_freePlace_5 (by decide) (fun h => ?_) (fun h => ?_)
      · exact absurd h (nI_ge (by omega) (by omega))
      · refine g_aload_n C dX0_freePlace_8 rfl ?_
        refine xg_13 C dX0_freePlace_9 ?_
        refine g_iload_n C dX0_freePlace_12 rfl ?_
        refine g_iushr C dX0_freePlace_13 ?_
        refine g_iconst C (1) dX0_freePlace_14 (by decide) ?_
        refine g_iand C dX0_freePlace_15 ?_
        refine g_if_ne C 21 dX0_freePlace_16 (by decide) (fun h1 => ?_) (fun h1 => ?_)
        · refine g_iinc C (nI (i + 1)) dX0_freePlace_21 rfl (inc1 i) (by decide) ?_
          refine g_goto C 2 dX0_freePlace_24 (by decide) ?_
          exact ih (i + 1) (by omega) (by rw [if_neg h1] at he; exact he)
        · refine g_iload_n C dX0_freePlace_19 rfl ?_
          exact RT dX0_freePlace_20 rfl (⟨by rw [if_pos h1] at he; rw [he], rfl⟩)
  refine g_iconst C (0) dX0_freePlace_0 (by decide) ?_
  refine g_istore_n C dX0_freePlace_1 (by decide) ?_
  exact loop 32 0 rfl hT.symm
set_option maxHeartbeats 4000000 in
set_option maxRecDepth 100000 in
theorem mX_lockOf {D : va_G} {o : Nat} {q : Nat → Nat} {tt : Nat → ClassId} {u : Mem} (W : WF u) {i : Int32} (r : Nat) (hi : i = nI r) (hr : r < 8) : Mi D (XK tt) o (XW o q tt) yX0_lockOf cX0_lockOf 3 .int r1 [.int i] u (fun x u' => x = lockF u r ∧ u = u') := by
  refine Mi.start 1 (by decide) (Nat.le_of_ble_eq_true rfl) rfl (List.forall_mem_cons.mpr ⟨rfl, List.forall_mem_cons.mpr ⟨rfl, fun _ h => absurd h List.not_mem_nil⟩⟩) ?_
  intro p l e s m args below meth c A Q C RT
  refine g_aload_n C dX0_lockOf_0 rfl ?_
  refine xg_1 C dX0_lockOf_1 ?_
  refine g_iload_n C dX0_lockOf_4 rfl ?_
  refine xl_1 C (r) (hi) (hr) dX0_lockOf_5 ?_
  refine g_istore_n C dX0_lockOf_6 (by decide) ?_
  refine g_iload_n C dX0_lockOf_7 rfl ?_
  refine g_if_lt C 33 dX0_lockOf_8 (by decide) (fun h => ?_) (fun h => ?_)
  · refine g_iconst C (-1) dX0_lockOf_33 (by decide) ?_
    exact RT dX0_lockOf_34 rfl (⟨by simp [lockF, h], rfl⟩)
  · have hc := okN.ix (W 1 r) (by decide) h
    have hp := okP.ix (W 5 (ix (u 1 r))) (by decide)
    refine g_aload_n C dX0_lockOf_11 rfl ?_
    refine g_aload_n C dX0_lockOf_12 rfl ?_
    refine xg_5 C dX0_lockOf_13 ?_
    refine g_iload_n C dX0_lockOf_16 rfl ?_
    refine xl_5 C (ix (u 1 r)) (hc.1) (hc.2) dX0_lockOf_17 ?_
    refine g_calli C (wf := XW o q tt) (mX_isOpen (ix (u 5 (ix (u 1 r)))) hp.1 hp.2) rfl (XW_obj _ _ _ _) (cwV 1 C.2.2.2.2.1 (lw_V q96 q98 qs1 q15 q99) rfl rfl rfl (by decide +kernel) ⟨by decide, by decide⟩) dX0_lockOf_18 (Nat.le_of_ble_eq_true rfl) ⟨by decide, by decide⟩ rfl (fun x u' hx => ?_)
    obtain ⟨hx, rfl⟩ := hx
    refine g_if_eq C 33 dX0_lockOf_21 (by decide) (fun h1 => ?_) (fun h1 => ?_)
    · refine g_iconst C (-1) dX0_lockOf_33 (by decide) ?_
      exact RT dX0_lockOf_34 rfl (⟨by rw [hx] at h1; simp [lockF, h, h1], rfl⟩)
    · refine g_aload_n C dX0_lockOf_24 rfl ?_
      refine xg_5 C dX0_lockOf_25 ?_
      refine g_iload_n C dX0_lockOf_28 rfl ?_
      refine xl_5 C (ix (u 1 r)) (hc.1) (hc.2) dX0_lockOf_29 ?_
      refine g_goto C 34 dX0_lockOf_30 (by decide) ?_
      exact RT dX0_lockOf_34 rfl (⟨by rw [hx] at h1; simp [lockF, h, h1], rfl⟩)
set_option maxHeartbeats 4000000 in
set_option maxRecDepth 100000 in
theorem mX_open {D : va_G} {o : Nat} {q : Nat → Nat} {tt : Nat → ClassId} {u : Mem} {i : Int32} (x : Nat) (hi : i = nI x) (hx : x < 4) : Mv D (XK tt) o (XW o q tt) yX0_open cX0_open 3 r1 [.int i] u (fun u' => u' = openF u x) := by
  refine Mv.start 1 (by decide) (Nat.le_of_ble_eq_true rfl) rfl (List.forall_mem_cons.mpr ⟨rfl, List.forall_mem_cons.mpr ⟨rfl, fun _ h => absurd h List.not_mem_nil⟩⟩) ?_
  intro p l e s m args below meth c A Q C RT
  refine g_aload_n C dX0_open_0 rfl ?_
  refine g_calli C (wf := XW o q tt) (mX_freePlace) rfl (XW_obj _ _ _ _) (cwV 0 C.2.2.2.2.1 (lw_V q112 q114 qs5 q15 q115) rfl rfl rfl (by decide +kernel) ⟨by decide, by decide⟩) dX0_open_1 (Nat.le_of_ble_eq_true rfl) ⟨by decide, by decide⟩ rfl (fun p1 u' hp => ?_)
  obtain ⟨rfl, rfl⟩ := hp
  have hf := freeF_lt (u 13 0) 32 0 rfl
  refine g_istore_n C dX0_open_4 (by decide) ?_
  refine g_aload_n C dX0_open_5 rfl ?_
  refine g_dup C dX0_open_6 rfl ?_
  refine xg_13 C dX0_open_7 ?_
  refine g_iconst C (1) dX0_open_10 (by decide) ?_
  refine g_iload_n C dX0_open_11 rfl ?_
  refine g_ishl C dX0_open_12 ?_
  refine g_ior C dX0_open_13 ?_
  refine xp_13 C dX0_open_14 ?_
  refine g_aload_n C dX0_open_17 rfl ?_
  refine xg_14 C dX0_open_18 ?_
  refine g_iload_n C dX0_open_21 rfl ?_
  refine g_iconst C (0) dX0_open_22 (by decide) ?_
  refine xs_14 C (freeF (u 13 0) 32 0) (rfl) (hf) dX0_open_23 ?_
  refine g_aload_n C dX0_open_24 rfl ?_
  refine xg_15 C dX0_open_25 ?_
  refine g_iload_n C dX0_open_28 rfl ?_
  refine g_iconst C (0) dX0_open_29 (by decide) ?_
  refine xs_15 C (freeF (u 13 0) 32 0) (rfl) (hf) dX0_open_30 ?_
  refine g_aload_n C dX0_open_31 rfl ?_
  refine xg_16 C dX0_open_32 ?_
  refine g_iload_n C dX0_open_35 rfl ?_
  refine g_iload_n C dX0_open_36 rfl ?_
  refine g_i2b C dX0_open_37 ?_
  refine xs_16 C (x) (hi) (hx) dX0_open_38 ?_
  exact RT dX0_open_39 (rfl)
set_option maxHeartbeats 4000000 in
set_option maxRecDepth 100000 in
theorem mX_isAfter {D : va_G} {o : Nat} {q : Nat → Nat} {tt : Nat → ClassId} {u : Mem} (W : WF u) {i t : Int32} (k : Nat) (hi : i = nI k) (hk : k < 24) : Mi D (XK tt) o (XW o q tt) yX0_isAfter cX0_isAfter 4 .boolean r1 [.int i, .int t] u (fun r u' => r = isAfterF u k t ∧ u = u') := by
  refine Mi.start 1 (by decide) (Nat.le_of_ble_eq_true rfl) rfl (List.forall_mem_cons.mpr ⟨rfl, List.forall_mem_cons.mpr ⟨rfl, List.forall_mem_cons.mpr ⟨rfl, fun _ h => absurd h List.not_mem_nil⟩⟩⟩) ?_
  intro p l e s m args below meth c A Q C RT
  have hp := okP.ix (W 5 k) (by decide)
  refine g_aload_n C dX0_isAfter_0 rfl ?_
  refine xg_5 C dX0_isAfter_1 ?_
  refine g_iload_n C dX0_isAfter_4 rfl ?_
  refine xl_5 C (k) (hi) (hk) dX0_isAfter_5 ?_
  refine g_istore_n C dX0_isAfter_6 (by decide) ?_
  refine g_aload_n C dX0_isAfter_7 rfl ?_
  refine g_iload_n C dX0_isAfter_8 rfl ?_
  refine g_calli C (wf := XW o q tt) (mX_isOpen (ix (u 5 k)) hp.1 hp.2) rfl (XW_obj _ _ _ _) (cwV 1 C.2.2.2.2.1 (lw_V q96 q98 qs1 q15 q99) rfl rfl rfl (by decide +kernel) ⟨by decide, by decide⟩) dX0_isAfter_9 (Nat.le_of_ble_eq_true rfl) ⟨by decide, by decide⟩ rfl (fun x u' hx => ?_)
  obtain ⟨hx, rfl⟩ := hx
  refine g_if_ne C 25 dX0_isAfter_12 (by decide) (fun h => ?_) (fun h => ?_)
  · refine g_iconst C (1) dX0_isAfter_25 (by decide) ?_
    refine g_goto C 30 dX0_isAfter_26 (by decide) ?_
    exact RT dX0_isAfter_30 rfl (⟨by rw [hx] at h; simp [isAfterF, h], rfl⟩)
  · refine g_aload_n C dX0_isAfter_15 rfl ?_
    refine xg_15 C dX0_isAfter_16 ?_
    refine g_iload_n C dX0_isAfter_19 rfl ?_
    refine xl_15 C (ix (u 5 k)) (hp.1) (hp.2) dX0_isAfter_20 ?_
    refine g_iload_n C dX0_isAfter_21 rfl ?_
    rw [hx] at h
    refine g_icmp_le C 29 dX0_isAfter_22 (by decide) (fun h1 => ?_) (fun h1 => ?_)
    · refine g_iconst C (0) dX0_isAfter_29 (by decide) ?_
      exact RT dX0_isAfter_30 rfl (⟨by simp [isAfterF, h, h1], rfl⟩)
    · refine g_iconst C (1) dX0_isAfter_25 (by decide) ?_
      refine g_goto C 30 dX0_isAfter_26 (by decide) ?_
      exact RT dX0_isAfter_30 rfl (⟨by simp [isAfterF, h, h1], rfl⟩)
set_option maxHeartbeats 4000000 in
set_option maxRecDepth 100000 in
theorem mX_unlink {D : va_G} {o : Nat} {q : Nat → Nat} {tt : Nat → ClassId} {u : Mem} (W : WF u) {i : Int32} (k : Nat) (hi : i = nI k) (hk : k < 24) : Mv D (XK tt) o (XW o q tt) yX0_unlink cX0_unlink 5 r1 [.int i] u (fun u' => u' = unlinkF u k) := by
  refine Mv.start 3 (by decide) (Nat.le_of_ble_eq_true rfl) rfl (List.forall_mem_cons.mpr ⟨rfl, List.forall_mem_cons.mpr ⟨rfl, fun _ h => absurd h List.not_mem_nil⟩⟩) ?_
  intro p l e s m args below meth c A Q C RT
  subst hi
  have h7 := W 7 k
  have h8 := W 8 k
  have J54 : ∀ u2 : Mem, WF u2 → unlinkF u k = unl3F u2 k → G p l e r1 s m args below meth c D A 5 0 0 Q (XW o q tt (u2)) 54 [some (.ref o), some (.int (nI k)), some (.int (u 7 k)), some (.int (u 8 k)), none] [] := by
    intro u2 W2 he
    have hp := okP.ix (W2 5 k) (by decide)
    refine g_aload_n C dX0_unlink_54 rfl ?_
    refine g_dup C dX0_unlink_55 rfl ?_
    refine xg_9 C dX0_unlink_56 ?_
    refine g_iconst C (1) dX0_unlink_59 (by decide) ?_
    refine g_iload_n C dX0_unlink_60 rfl ?_
    refine g_ishl C dX0_unlink_61 ?_
    refine g_iconst C (-1) dX0_unlink_62 (by decide) ?_
    refine g_ixor C dX0_unlink_63 ?_
    refine g_iand C dX0_unlink_64 ?_
    refine xp_9 C dX0_unlink_65 ?_
    refine g_aload_n C dX0_unlink_68 rfl ?_
    refine g_dup C dX0_unlink_69 rfl ?_
    refine xg_12 C dX0_unlink_70 ?_
    refine g_iconst C (1) dX0_unlink_73 (by decide) ?_
    refine g_isub C dX0_unlink_74 ?_
    refine xp_12 C dX0_unlink_75 ?_
    refine g_aload_n C dX0_unlink_78 rfl ?_
    refine xg_5 C dX0_unlink_79 ?_
    refine g_iload_n C dX0_unlink_82 rfl ?_
    refine xl_5 C (k) (rfl) (hk) dX0_unlink_83 ?_
    refine g_istore C dX0_unlink_84 (by decide) ?_
    refine g_aload_n C dX0_unlink_86 rfl ?_
    refine xg_14 C dX0_unlink_87 ?_
    refine g_iload C dX0_unlink_90 rfl ?_
    refine g_dup2 C dX0_unlink_92 rfl rfl ?_
    refine xl_14 C (ix (u2 5 k)) (hp.1) (hp.2) dX0_unlink_93 ?_
    refine g_iconst C (1) dX0_unlink_94 (by decide) ?_
    refine g_isub C dX0_unlink_95 ?_
    refine g_i2b C dX0_unlink_96 ?_
    refine xs_14 C (ix (u2 5 k)) (hp.1) (hp.2) dX0_unlink_97 ?_
    refine g_aload_n C dX0_unlink_98 rfl ?_
    refine xg_14 C dX0_unlink_99 ?_
    refine g_iload C dX0_unlink_102 rfl ?_
    refine xl_14 C (ix (u2 5 k)) (hp.1) (hp.2) dX0_unlink_104 ?_
    refine g_if_ne C 132 dX0_unlink_105 (by decide) (fun h => ?_) (fun h => ?_)
    · exact RT dX0_unlink_132 ((he.trans (if_neg h)).symm)
    · refine g_aload_n C dX0_unlink_108 rfl ?_
      refine g_iload C dX0_unlink_109 rfl ?_
      refine g_calli C (wf := XW o q tt) (mX_isOpen (ix (u2 5 k)) hp.1 hp.2) rfl (XW_obj _ _ _ _) (cwV 1 C.2.2.2.2.1 (lw_V q96 q98 qs1 q15 q99) rfl rfl rfl (by decide +kernel) ⟨by decide, by decide⟩) dX0_unlink_111 (Nat.le_of_ble_eq_true rfl) ⟨by decide, by decide⟩ rfl (fun x u' hx => ?_)
      obtain ⟨hx, rfl⟩ := hx
      rw [hx]
      refine g_if_ne C 132 dX0_unlink_114 (by decide) (fun h1 => ?_) (fun h1 => ?_)
      · exact RT dX0_unlink_132 ((he.trans ((if_pos h).trans (if_neg h1))).symm)
      · refine g_aload_n C dX0_unlink_117 rfl ?_
        refine g_dup C dX0_unlink_118 rfl ?_
        refine xg_13 C dX0_unlink_119 ?_
        refine g_iconst C (1) dX0_unlink_122 (by decide) ?_
        refine g_iload C dX0_unlink_123 rfl ?_
        refine g_ishl C dX0_unlink_125 ?_
        refine g_iconst C (-1) dX0_unlink_126 (by decide) ?_
        refine g_ixor C dX0_unlink_127 ?_
        refine g_iand C dX0_unlink_128 ?_
        refine xp_13 C dX0_unlink_129 ?_
        exact RT dX0_unlink_132 ((he.trans ((if_pos h).trans (if_pos h1))).symm)
  have J34 : ∀ u1 : Mem, WF u1 → unlinkF u k = unl3F (unl2F u1 (u 7 k) (u 8 k)) k → G p l e r1 s m args below meth c D A 5 0 0 Q (XW o q tt (u1)) 34 [some (.ref o), some (.int (nI k)), some (.int (u 7 k)), some (.int (u 8 k)), none] [] := by
    intro u1 W1 he
    refine g_iload_n C dX0_unlink_34 rfl ?_
    refine g_if_lt C 49 dX0_unlink_35 (by decide) (fun h => ?_) (fun h => ?_)
    · refine g_aload_n C dX0_unlink_49 rfl ?_
      refine g_iload_n C dX0_unlink_50 rfl ?_
      refine xp_11 C dX0_unlink_51 ?_
      exact J54 _ (WF_pk W1 h7) (he.trans (congrArg (fun z => unl3F z k) (if_pos h)))
    · have hn := okN.ix h8 (by decide) h
      refine g_aload_n C dX0_unlink_38 rfl ?_
      refine xg_7 C dX0_unlink_39 ?_
      refine g_iload_n C dX0_unlink_42 rfl ?_
      refine g_iload_n C dX0_unlink_43 rfl ?_
      refine g_i2b C dX0_unlink_44 ?_
      refine xs_7 C (ix (u 8 k)) (hn.1) (hn.2) dX0_unlink_45 ?_
      refine g_goto C 54 dX0_unlink_46 (by decide) ?_
      exact J54 _ (WF_pk W1 (okN_b8b8 h7 (by decide))) (he.trans (congrArg (fun z => unl3F z k) (if_neg h)))
  refine g_aload_n C dX0_unlink_0 rfl ?_
  refine xg_7 C dX0_unlink_1 ?_
  refine g_iload_n C dX0_unlink_4 rfl ?_
  refine xl_7 C (k) (rfl) (hk) dX0_unlink_5 ?_
  refine g_istore_n C dX0_unlink_6 (by decide) ?_
  refine g_aload_n C dX0_unlink_7 rfl ?_
  refine xg_8 C dX0_unlink_8 ?_
  refine g_iload_n C dX0_unlink_11 rfl ?_
  refine xl_8 C (k) (rfl) (hk) dX0_unlink_12 ?_
  refine g_istore_n C dX0_unlink_13 (by decide) ?_
  refine g_iload_n C dX0_unlink_14 rfl ?_
  refine g_if_lt C 29 dX0_unlink_15 (by decide) (fun h => ?_) (fun h => ?_)
  · refine g_aload_n C dX0_unlink_29 rfl ?_
    refine g_iload_n C dX0_unlink_30 rfl ?_
    refine xp_10 C dX0_unlink_31 ?_
    exact J34 _ (WF_pk W h8) (congrArg (fun z => unl3F (unl2F z (u 7 k) (u 8 k)) k) (if_pos h))
  · have hn := okN.ix h7 (by decide) h
    refine g_aload_n C dX0_unlink_18 rfl ?_
    refine xg_8 C dX0_unlink_19 ?_
    refine g_iload_n C dX0_unlink_22 rfl ?_
    refine g_iload_n C dX0_unlink_23 rfl ?_
    refine g_i2b C dX0_unlink_24 ?_
    refine xs_8 C (ix (u 7 k)) (hn.1) (hn.2) dX0_unlink_25 ?_
    refine g_goto C 34 dX0_unlink_26 (by decide) ?_
    exact J34 _ (WF_pk W (okN_b8b8 h8 (by decide))) (congrArg (fun z => unl3F (unl2F z (u 7 k) (u 8 k)) k) (if_neg h))
end
section
/-! ===== UndoReader: note, forgetFirst, seen, commit, rollback ===== -/
set_option maxHeartbeats 4000000 in
set_option maxRecDepth 100000 in
theorem mX_note {D : va_G} {o : Nat} {q : Nat → Nat} {tt : Nat → ClassId} {u : Mem} (W : WF u) {i t : Int32} (r p0 : Nat) (hi : i = nI r) (ht : t = nI p0) (hr : r < 8) (hp : p0 < 32) : Mv D (XK tt) o (XW o q tt) yX0_note cX0_note 4 r0 [.int i, .int t] u (fun u' => u' = noteF u r p0) := by
  refine Mv.start 1 (by decide) (Nat.le_of_ble_eq_true rfl) rfl (List.forall_mem_cons.mpr ⟨rfl, List.forall_mem_cons.mpr ⟨rfl, List.forall_mem_cons.mpr ⟨rfl, fun _ h => absurd h List.not_mem_nil⟩⟩⟩) ?_
  intro p l e s m args below meth c A Q C RT
  subst hi
  subst ht
  obtain ⟨T, hT⟩ : ∃ T, T = slotF (u 9 0) 23 0 := ⟨_, rfl⟩
  have hT24 : T < 24 := hT ▸ slotF_lt _ 23 0 rfl
  have hN : noteF u r p0 = note3F (note2F (note1F u r p0 T) T) T := by rw [hT]; rfl
  have J140 : ∀ u2 : Mem, noteF u r p0 = note3F u2 T → G p l e r0 s m args below meth c D A 4 0 0 Q (XW o q tt (u2)) 140 [some (.ref o), some (.int (nI r)), some (.int (nI p0)), some (.int (nI T))] [] := by
    intro u2 he
    refine g_aload_n C dX0_note_140 rfl ?_
    refine g_iload_n C dX0_note_141 rfl ?_
    refine xp_11 C dX0_note_142 ?_
    refine g_aload_n C dX0_note_145 rfl ?_
    refine g_dup C dX0_note_146 rfl ?_
    refine xg_12 C dX0_note_147 ?_
    refine g_iconst C (1) dX0_note_150 (by decide) ?_
    refine g_iadd C dX0_note_151 ?_
    refine xp_12 C dX0_note_152 ?_
    exact RT dX0_note_155 (he.symm)
  have J25 : G p l e r0 s m args below meth c D A 4 0 0 Q (XW o q tt (u)) 25 [some (.ref o), some (.int (nI r)), some (.int (nI p0)), some (.int (nI T))] [] := by
    refine g_aload_n C dX0_note_25 rfl ?_
    refine g_dup C dX0_note_26 rfl ?_
    refine xg_9 C dX0_note_27 ?_
    refine g_iconst C (1) dX0_note_30 (by decide) ?_
    refine g_iload_n C dX0_note_31 rfl ?_
    refine g_ishl C dX0_note_32 ?_
    refine g_ior C dX0_note_33 ?_
    refine xp_9 C dX0_note_34 ?_
    refine g_aload_n C dX0_note_37 rfl ?_
    refine xg_3 C dX0_note_38 ?_
    refine g_iload_n C dX0_note_41 rfl ?_
    refine g_iload_n C dX0_note_42 rfl ?_
    refine g_i2b C dX0_note_43 ?_
    refine xs_3 C (T) (rfl) (hT24) dX0_note_44 ?_
    refine g_aload_n C dX0_note_45 rfl ?_
    refine xg_4 C dX0_note_46 ?_
    refine g_iload_n C dX0_note_49 rfl ?_
    refine g_aload_n C dX0_note_50 rfl ?_
    refine xg_0 C dX0_note_51 ?_
    refine g_iload_n C dX0_note_54 rfl ?_
    refine xl_0 C (r) (rfl) (hr) dX0_note_55 ?_
    refine xs_4 C (T) (rfl) (hT24) dX0_note_56 ?_
    refine g_aload_n C dX0_note_57 rfl ?_
    refine xg_5 C dX0_note_58 ?_
    refine g_iload_n C dX0_note_61 rfl ?_
    refine g_iload_n C dX0_note_62 rfl ?_
    refine g_i2b C dX0_note_63 ?_
    refine xs_5 C (T) (rfl) (hT24) dX0_note_64 ?_
    refine g_aload_n C dX0_note_65 rfl ?_
    refine xg_14 C dX0_note_66 ?_
    refine g_iload_n C dX0_note_69 rfl ?_
    refine g_dup2 C dX0_note_70 rfl rfl ?_
    refine xl_14 C (p0) (rfl) (hp) dX0_note_71 ?_
    refine g_iconst C (1) dX0_note_72 (by decide) ?_
    refine g_iadd C dX0_note_73 ?_
    refine g_i2b C dX0_note_74 ?_
    refine xs_14 C (p0) (rfl) (hp) dX0_note_75 ?_
    refine g_aload_n C dX0_note_76 rfl ?_
    refine xg_6 C dX0_note_77 ?_
    refine g_iload_n C dX0_note_80 rfl ?_
    refine g_aload_n C dX0_note_81 rfl ?_
    refine xg_1 C dX0_note_82 ?_
    refine g_iload_n C dX0_note_85 rfl ?_
    refine xl_1 C (r) (rfl) (hr) dX0_note_86 ?_
    refine xs_6 C (T) (rfl) (hT24) dX0_note_87 ?_
    refine g_aload_n C dX0_note_88 rfl ?_
    refine xg_1 C dX0_note_89 ?_
    refine g_iload_n C dX0_note_92 rfl ?_
    refine g_iload_n C dX0_note_93 rfl ?_
    refine g_i2b C dX0_note_94 ?_
    refine xs_1 C (r) (rfl) (hr) dX0_note_95 ?_
    refine g_aload_n C dX0_note_96 rfl ?_
    refine xg_7 C dX0_note_97 ?_
    refine g_iload_n C dX0_note_100 rfl ?_
    refine g_aload_n C dX0_note_101 rfl ?_
    refine xg_11 C dX0_note_102 ?_
    refine g_i2b C dX0_note_105 ?_
    refine xs_7 C (T) (rfl) (hT24) dX0_note_106 ?_
    refine g_aload_n C dX0_note_107 rfl ?_
    refine xg_8 C dX0_note_108 ?_
    refine g_iload_n C dX0_note_111 rfl ?_
    refine g_iconst C (-1) dX0_note_112 (by decide) ?_
    refine xs_8 C (T) (rfl) (hT24) dX0_note_113 ?_
    refine g_aload_n C dX0_note_114 rfl ?_
    refine xg_11 C dX0_note_115 ?_
    refine g_if_lt C 135 dX0_note_118 (by decide) (fun h => ?_) (fun h => ?_)
    · refine g_aload_n C dX0_note_135 rfl ?_
      refine g_iload_n C dX0_note_136 rfl ?_
      refine xp_10 C dX0_note_137 ?_
      exact J140 _ (hN.trans (congrArg (fun z => note3F z T) (if_pos h)))
    · have hl := okN.ix (W 11 0) (by decide) h
      refine g_aload_n C dX0_note_121 rfl ?_
      refine xg_8 C dX0_note_122 ?_
      refine g_aload_n C dX0_note_125 rfl ?_
      refine xg_11 C dX0_note_126 ?_
      refine g_iload_n C dX0_note_129 rfl ?_
      refine g_i2b C dX0_note_130 ?_
      refine xs_8 C (ix (u 11 0)) (hl.1) (hl.2) dX0_note_131 ?_
      refine g_goto C 140 dX0_note_132 (by decide) ?_
      exact J140 _ (hN.trans (congrArg (fun z => note3F z T) (if_neg h)))
  have loop : ∀ (k i0 : Nat), k + i0 = 23 → slotF (u 9 0) k i0 = T → G p l e r0 s m args below meth c D A 4 0 0 Q (XW o q tt (u)) 2 [some (.ref o), some (.int (nI r)), some (.int (nI p0)), some (.int (nI i0))] [] := by
    intro k
    induction k with
    | zero =>
      intro i0 hi he
      refine g_iload_n C dX0_note_2 rfl ?_
      refine g_bipush C (nI 23) dX0_note_3 (by decide) ?_
      refine g_icmp_ge C 25 dX0_note_5 (by decide) (fun h => ?_) (fun h => ?_)
      · rw [show i0 = T from he]
        exact J25
      · exact absurd (nI_le (by omega) (by omega)) h
    | succ k ih =>
      intro i0 hi he
      unfold slotF at he
      refine g_iload_n C dX0_note_2 rfl ?_
      refine g_bipush C (nI 23) dX0_note_3 (by decide) ?_
      refine g_icmp_ge C 25 dX0_note_5 (by decide) (fun h => ?_) (fun h => ?_)
      · exact absurd h (nI_ge (by omega) (by omega))
      · refine g_aload_n C dX0_note_8 rfl ?_
        refine xg_9 C dX0_note_9 ?_
        refine g_iload_n C dX0_note_12 rfl ?_
        refine g_ishr C dX0_note_13 ?_
        refine g_iconst C (1) dX0_note_14 (by decide) ?_
        refine g_iand C dX0_note_15 ?_
        refine g_if_eq C 25 dX0_note_16 (by decide) (fun h1 => ?_) (fun h1 => ?_)
        · rw [if_pos h1] at he
          rw [he]
          exact J25
        · refine g_iinc C (nI (i0 + 1)) dX0_note_19 rfl (inc1 i0) (by decide) ?_
          refine g_goto C 2 dX0_note_22 (by decide) ?_
          exact ih (i0 + 1) (by omega) (by rw [if_neg h1] at he; exact he)
  refine g_iconst C (0) dX0_note_0 (by decide) ?_
  refine g_istore_n C dX0_note_1 (by decide) ?_
  exact loop 23 0 rfl hT.symm
set_option maxHeartbeats 4000000 in
set_option maxRecDepth 100000 in
theorem mX_forgetFirst {D : va_G} {o : Nat} {q : Nat → Nat} {tt : Nat → ClassId} {u : Mem} (W : WF u) (hf : ¬ u 10 0 < 0) : Mv D (XK tt) o (XW o q tt) yX0_forgetFirst cX0_forgetFirst 5 r2 [] u (fun u' => u' = forgetF u) := by
  refine Mv.start 4 (by decide) (Nat.le_of_ble_eq_true rfl) rfl (List.forall_mem_cons.mpr ⟨rfl, fun _ h => absurd h List.not_mem_nil⟩) ?_
  intro p l e s m args below meth c A Q C RT
  have h10 := okN.ix (W 10 0) (by decide) hf
  obtain ⟨k, hk, e10⟩ : ∃ k, k < 24 ∧ u 10 0 = nI k := ⟨_, h10.2, h10.1⟩
  have hix : ix (u 10 0) = k := by rw [e10]; exact ix_nI (by omega)
  have h3 := okP.ix (W 3 k) (by decide)
  have h5 := okP.ix (W 5 k) (by decide)
  have hF : forgetF u = unlinkF (fgLoop k 24 0 (fg2F (fg1F u (ix (u 3 k)) (u 15 (ix (u 5 k)))) (ix (u 3 k)) k)) k := by
    show unlinkF (fgLoop (ix (u 10 0)) 24 0 (fg2F (fg1F u (ix (u 3 (ix (u 10 0)))) (u 15 (ix (u 5 (ix (u 10 0)))))) (ix (u 3 (ix (u 10 0)))) (ix (u 10 0)))) (ix (u 10 0)) = _
    rw [hix]
  have loop : ∀ (n d : Nat) (u3 : Mem), n + d = 24 → WF u3 → forgetF u = unlinkF (fgLoop k n d u3) k → G p l e r2 s m args below meth c D A 5 0 0 Q (XW o q tt (u3)) 61 [some (.ref o), some (.int (nI k)), some (.int (u 3 k)), some (.int (u 15 (ix (u 5 k)))), some (.int (nI d))] [] := by
    intro n
    induction n with
    | zero =>
      intro d u3 hd W3 he
      refine g_iload C dX0_forgetFirst_61 rfl ?_
      refine g_bipush C (nI 24) dX0_forgetFirst_63 (by decide) ?_
      refine g_icmp_ge C 105 dX0_forgetFirst_65 (by decide) (fun h => ?_) (fun h => ?_)
      · refine g_aload_n C dX0_forgetFirst_105 rfl ?_
        refine g_iload_n C dX0_forgetFirst_106 rfl ?_
        refine g_callv C (wf := XW o q tt) (mX_unlink W3 k rfl hk) rfl (XW_obj _ _ _ _) (cwV 1 C.2.2.2.2.1 (lw_V q104 q106 qs3 q15 q107) rfl rfl rfl (by decide +kernel) ⟨by decide, by decide⟩) dX0_forgetFirst_107 (Nat.le_of_ble_eq_true rfl) ⟨by decide, by decide⟩ rfl (fun u' hu => ?_)
        subst hu
        exact RT dX0_forgetFirst_110 (he.symm)
      · exact absurd (nI_le (by omega) (by omega)) h
    | succ n ih =>
      intro d u3 hd W3 he
      unfold fgLoop at he
      have hd24 : d < 24 := by omega
      refine g_iload C dX0_forgetFirst_61 rfl ?_
      refine g_bipush C (nI 24) dX0_forgetFirst_63 (by decide) ?_
      refine g_icmp_ge C 105 dX0_forgetFirst_65 (by decide) (fun h => ?_) (fun h => ?_)
      · exact absurd h (nI_ge (by omega) (by omega))
      · refine g_aload_n C dX0_forgetFirst_68 rfl ?_
        refine xg_9 C dX0_forgetFirst_69 ?_
        refine g_iload C dX0_forgetFirst_72 rfl ?_
        refine g_ishr C dX0_forgetFirst_74 ?_
        refine g_iconst C (1) dX0_forgetFirst_75 (by decide) ?_
        refine g_iand C dX0_forgetFirst_76 ?_
        refine g_if_eq C 99 dX0_forgetFirst_77 (by decide) (fun h1 => ?_) (fun h1 => ?_)
        · rw [if_pos h1] at he
          refine g_iinc C (nI (d + 1)) dX0_forgetFirst_99 rfl (inc1 d) (by decide) ?_
          refine g_goto C 61 dX0_forgetFirst_102 (by decide) ?_
          exact ih (d + 1) _ (by omega) W3 he
        · rw [if_neg h1] at he
          refine g_aload_n C dX0_forgetFirst_80 rfl ?_
          refine xg_6 C dX0_forgetFirst_81 ?_
          refine g_iload C dX0_forgetFirst_84 rfl ?_
          refine xl_6 C (d) (rfl) (hd24) dX0_forgetFirst_86 ?_
          refine g_iload_n C dX0_forgetFirst_87 rfl ?_
          refine g_icmp_ne C 99 dX0_forgetFirst_88 (by decide) (fun h2 => ?_) (fun h2 => ?_)
          · rw [if_neg h2] at he
            refine g_iinc C (nI (d + 1)) dX0_forgetFirst_99 rfl (inc1 d) (by decide) ?_
            refine g_goto C 61 dX0_forgetFirst_102 (by decide) ?_
            exact ih (d + 1) _ (by omega) W3 he
          · rw [if_pos h2] at he
            refine g_aload_n C dX0_forgetFirst_91 rfl ?_
            refine xg_6 C dX0_forgetFirst_92 ?_
            refine g_iload C dX0_forgetFirst_95 rfl ?_
            refine g_iconst C (-1) dX0_forgetFirst_97 (by decide) ?_
            refine xs_6 C (d) (rfl) (hd24) dX0_forgetFirst_98 ?_
            refine g_iinc C (nI (d + 1)) dX0_forgetFirst_99 rfl (inc1 d) (by decide) ?_
            refine g_goto C 61 dX0_forgetFirst_102 (by decide) ?_
            exact ih (d + 1) _ (by omega) (WF_pk W3 okN_m1) he
  have J58 : ∀ u2 : Mem, WF u2 → forgetF u = unlinkF (fgLoop k 24 0 u2) k → G p l e r2 s m args below meth c D A 5 0 0 Q (XW o q tt (u2)) 58 [some (.ref o), some (.int (nI k)), some (.int (u 3 k)), some (.int (u 15 (ix (u 5 k)))), none] [] := by
    intro u2 W2 he
    refine g_iconst C (0) dX0_forgetFirst_58 (by decide) ?_
    refine g_istore C dX0_forgetFirst_59 (by decide) ?_
    exact loop 24 0 u2 rfl W2 he
  have J41 : ∀ u1 : Mem, WF u1 → forgetF u = unlinkF (fgLoop k 24 0 (fg2F u1 (ix (u 3 k)) k)) k → G p l e r2 s m args below meth c D A 5 0 0 Q (XW o q tt (u1)) 41 [some (.ref o), some (.int (nI k)), some (.int (u 3 k)), some (.int (u 15 (ix (u 5 k)))), none] [] := by
    intro u1 W1 he
    refine g_aload_n C dX0_forgetFirst_41 rfl ?_
    refine xg_1 C dX0_forgetFirst_42 ?_
    refine g_iload_n C dX0_forgetFirst_45 rfl ?_
    refine xl_1 C (ix (u 3 k)) (h3.1) (h3.2) dX0_forgetFirst_46 ?_
    refine g_iload_n C dX0_forgetFirst_47 rfl ?_
    refine g_icmp_ne C 58 dX0_forgetFirst_48 (by decide) (fun h => ?_) (fun h => ?_)
    · exact J58 u1 W1 (he.trans (congrArg (fun z => unlinkF (fgLoop k 24 0 z) k) (if_neg h)))
    · refine g_aload_n C dX0_forgetFirst_51 rfl ?_
      refine xg_1 C dX0_forgetFirst_52 ?_
      refine g_iload_n C dX0_forgetFirst_55 rfl ?_
      refine g_iconst C (-1) dX0_forgetFirst_56 (by decide) ?_
      refine xs_1 C (ix (u 3 k)) (h3.1) (h3.2) dX0_forgetFirst_57 ?_
      exact J58 _ (WF_pk W1 okN_m1) (he.trans (congrArg (fun z => unlinkF (fgLoop k 24 0 z) k) (if_pos h)))
  refine g_aload_n C dX0_forgetFirst_0 rfl ?_
  refine xg_10 C dX0_forgetFirst_1 ?_
  rw [e10]
  refine g_istore_n C dX0_forgetFirst_4 (by decide) ?_
  refine g_aload_n C dX0_forgetFirst_5 rfl ?_
  refine xg_3 C dX0_forgetFirst_6 ?_
  refine g_iload_n C dX0_forgetFirst_9 rfl ?_
  refine xl_3 C (k) (rfl) (hk) dX0_forgetFirst_10 ?_
  refine g_istore_n C dX0_forgetFirst_11 (by decide) ?_
  refine g_aload_n C dX0_forgetFirst_12 rfl ?_
  refine xg_15 C dX0_forgetFirst_13 ?_
  refine g_aload_n C dX0_forgetFirst_16 rfl ?_
  refine xg_5 C dX0_forgetFirst_17 ?_
  refine g_iload_n C dX0_forgetFirst_20 rfl ?_
  refine xl_5 C (k) (rfl) (hk) dX0_forgetFirst_21 ?_
  refine xl_15 C (ix (u 5 k)) (h5.1) (h5.2) dX0_forgetFirst_22 ?_
  refine g_istore_n C dX0_forgetFirst_23 (by decide) ?_
  refine g_iload_n C dX0_forgetFirst_24 rfl ?_
  refine g_aload_n C dX0_forgetFirst_25 rfl ?_
  refine xg_2 C dX0_forgetFirst_26 ?_
  refine g_iload_n C dX0_forgetFirst_29 rfl ?_
  refine xl_2 C (ix (u 3 k)) (h3.1) (h3.2) dX0_forgetFirst_30 ?_
  refine g_icmp_le C 41 dX0_forgetFirst_31 (by decide) (fun h => ?_) (fun h => ?_)
  · exact J41 u W (hF.trans (congrArg (fun z => unlinkF (fgLoop k 24 0 (fg2F z (ix (u 3 k)) k)) k) (if_pos h)))
  · refine g_aload_n C dX0_forgetFirst_34 rfl ?_
    refine xg_2 C dX0_forgetFirst_35 ?_
    refine g_iload_n C dX0_forgetFirst_38 rfl ?_
    refine g_iload_n C dX0_forgetFirst_39 rfl ?_
    refine xs_2 C (ix (u 3 k)) (h3.1) (h3.2) dX0_forgetFirst_40 ?_
    exact J41 _ (WF_pk W trivial) (hF.trans (congrArg (fun z => unlinkF (fgLoop k 24 0 (fg2F z (ix (u 3 k)) k)) k) (if_neg h)))
set_option maxHeartbeats 4000000 in
set_option maxRecDepth 100000 in
theorem mX_seen {D : va_G} {o : Nat} {q : Nat → Nat} {tt : Nat → ClassId} {u : Mem} (W : WF u) {i t : Int32} (r : Nat) (hi : i = nI r) (hr : r < 8) : Mi D (XK tt) o (XW o q tt) yX0_seen cX0_seen 6 .int r2 [.int i, .int t] u (fun x u' => x = seenF u r t ∧ u = u') := by
  refine Mi.start 3 (by decide) (Nat.le_of_ble_eq_true rfl) rfl (List.forall_mem_cons.mpr ⟨rfl, List.forall_mem_cons.mpr ⟨rfl, List.forall_mem_cons.mpr ⟨rfl, fun _ h => absurd h List.not_mem_nil⟩⟩⟩) ?_
  intro p l e s m args below meth c A Q C RT
  have loop : ∀ (k d : Nat) (v c0 : Int32), k + d = 24 → okN 24 c0 → seenF u r t = seenL u t k v c0 → G p l e r2 s m args below meth c D A 6 0 0 Q (XW o q tt (u)) 31 [some (.ref o), some (.int (i)), some (.int (t)), some (.int (v)), some (.int (c0)), some (.int (nI d))] [] := by
    intro k
    induction k with
    | zero =>
      intro d v c0 hd hok he
      refine g_iload C dX0_seen_31 rfl ?_
      refine g_bipush C (nI 24) dX0_seen_33 (by decide) ?_
      refine g_icmp_ge C 76 dX0_seen_35 (by decide) (fun h => ?_) (fun h => ?_)
      · refine g_iload_n C dX0_seen_76 rfl ?_
        exact RT dX0_seen_77 rfl (⟨he.symm, rfl⟩)
      · exact absurd (nI_le (by omega) (by omega)) h
    | succ k ih =>
      intro d v c0 hd hok he
      unfold seenL at he
      refine g_iload C dX0_seen_31 rfl ?_
      refine g_bipush C (nI 24) dX0_seen_33 (by decide) ?_
      refine g_icmp_ge C 76 dX0_seen_35 (by decide) (fun h => ?_) (fun h => ?_)
      · exact absurd h (nI_ge (by omega) (by omega))
      · refine g_iload C dX0_seen_38 rfl ?_
        refine g_if_lt C 76 dX0_seen_40 (by decide) (fun h2 => ?_) (fun h2 => ?_)
        · rw [if_pos h2] at he
          refine g_iload_n C dX0_seen_76 rfl ?_
          exact RT dX0_seen_77 rfl (⟨he.symm, rfl⟩)
        · have hc := okN.ix hok (by decide) h2
          rw [if_neg h2] at he
          refine g_aload_n C dX0_seen_43 rfl ?_
          refine g_iload C dX0_seen_44 rfl ?_
          refine g_iload_n C dX0_seen_46 rfl ?_
          refine g_calli C (wf := XW o q tt) (mX_isAfter W (ix c0) hc.1 hc.2) rfl (XW_obj _ _ _ _) (cwV 2 C.2.2.2.2.1 (lw_V q141 q143 qs8 q15 q144) rfl rfl rfl (by decide +kernel) ⟨by decide, by decide⟩) dX0_seen_47 (Nat.le_of_ble_eq_true rfl) ⟨by decide, by decide⟩ rfl (fun x u' hx => ?_)
          obtain ⟨rfl, rfl⟩ := hx
          refine g_if_eq C 76 dX0_seen_50 (by decide) (fun h3 => ?_) (fun h3 => ?_)
          · rw [if_pos h3] at he
            refine g_iload_n C dX0_seen_76 rfl ?_
            exact RT dX0_seen_77 rfl (⟨he.symm, rfl⟩)
          · rw [if_neg h3] at he
            refine g_aload_n C dX0_seen_53 rfl ?_
            refine xg_4 C dX0_seen_54 ?_
            refine g_iload C dX0_seen_57 rfl ?_
            refine xl_4 C (ix c0) (hc.1) (hc.2) dX0_seen_59 ?_
            refine g_istore_n C dX0_seen_60 (by decide) ?_
            refine g_aload_n C dX0_seen_61 rfl ?_
            refine xg_6 C dX0_seen_62 ?_
            refine g_iload C dX0_seen_65 rfl ?_
            refine xl_6 C (ix c0) (hc.1) (hc.2) dX0_seen_67 ?_
            refine g_istore C dX0_seen_68 (by decide) ?_
            refine g_iinc C (nI (d + 1)) dX0_seen_70 rfl (inc1 d) (by decide) ?_
            refine g_goto C 31 dX0_seen_73 (by decide) ?_
            exact ih (d + 1) _ _ (by omega) (W 6 _) he
  refine g_aload_n C dX0_seen_0 rfl ?_
  refine xg_2 C dX0_seen_1 ?_
  refine g_iload_n C dX0_seen_4 rfl ?_
  refine xl_2 C (r) (hi) (hr) dX0_seen_5 ?_
  refine g_iload_n C dX0_seen_6 rfl ?_
  refine g_icmp_le C 13 dX0_seen_7 (by decide) (fun h => ?_) (fun h => ?_)
  · refine g_aload_n C dX0_seen_13 rfl ?_
    refine xg_0 C dX0_seen_14 ?_
    refine g_iload_n C dX0_seen_17 rfl ?_
    refine xl_0 C (r) (hi) (hr) dX0_seen_18 ?_
    refine g_istore_n C dX0_seen_19 (by decide) ?_
    refine g_aload_n C dX0_seen_20 rfl ?_
    refine xg_1 C dX0_seen_21 ?_
    refine g_iload_n C dX0_seen_24 rfl ?_
    refine xl_1 C (r) (hi) (hr) dX0_seen_25 ?_
    refine g_istore C dX0_seen_26 (by decide) ?_
    refine g_iconst C (0) dX0_seen_28 (by decide) ?_
    refine g_istore C dX0_seen_29 (by decide) ?_
    exact loop 24 0 _ _ rfl (W 1 r) (if_pos h)
  · refine g_ldc C q140 dX0_seen_10 ?_
    exact RT dX0_seen_12 rfl (⟨(if_neg h).symm, rfl⟩)
set_option maxHeartbeats 4000000 in
set_option maxRecDepth 100000 in
theorem mX_commit {D : va_G} {o : Nat} {q : Nat → Nat} {tt : Nat → ClassId} {u : Mem} (W : WF u) {x : Int32} : Mi D (XK tt) o (XW o q tt) yX0_commit cX0_commit 2 .int r1 [.int x] u (fun r u' => r = (commitF u x).1 ∧ u' = (commitF u x).2) := by
  refine Mi.start 0 (by decide) (Nat.le_of_ble_eq_true rfl) rfl (List.forall_mem_cons.mpr ⟨rfl, List.forall_mem_cons.mpr ⟨rfl, fun _ h => absurd h List.not_mem_nil⟩⟩) ?_
  intro p l e s m args below meth c A Q C RT
  refine g_iload_n C dX0_commit_0 rfl ?_
  refine g_calls C (mX_isSession x) (va_cwS 1 C.2.2.2.2.1 (lw_S q86 q87 q15 q88) rfl rfl rfl (by decide +kernel) ⟨by decide, by decide⟩) dX0_commit_1 (Nat.le_of_ble_eq_true rfl) ⟨by decide, by decide⟩ rfl (fun y hy => ?_)
  subst hy
  refine g_if_eq C 16 dX0_commit_4 (by decide) (fun h => ?_) (fun h => ?_)
  · have he : commitF u x = (-4, u) := if_pos h
    refine g_bipush C (-4) dX0_commit_16 (by decide) ?_
    exact RT dX0_commit_18 rfl (⟨by rw [he], by rw [he]⟩)
  · obtain ⟨j, hj, rfl⟩ := sess_of h
    have hix : ix (nI j) = j := ix_nI (by omega)
    refine g_aload_n C dX0_commit_7 rfl ?_
    refine xg_16 C dX0_commit_8 ?_
    refine g_iload_n C dX0_commit_11 rfl ?_
    refine xl_16 C (j) (rfl) (hj) dX0_commit_12 ?_
    refine g_if_ge C 19 dX0_commit_13 (by decide) (fun h1 => ?_) (fun h1 => ?_)
    · have h2 : ¬ u 16 j < 0 := Int32.not_lt.mpr h1
      have hp := okN.ix (W 16 j) (by decide) h2
      have he : commitF u (nI j) = (commit1F u j 17 0, commit1F u j) := by unfold commitF; rw [hix, if_neg h, if_neg h2]
      refine g_aload_n C dX0_commit_19 rfl ?_
      refine g_dup C dX0_commit_20 rfl ?_
      refine xg_17 C dX0_commit_21 ?_
      refine g_iconst C (1) dX0_commit_24 (by decide) ?_
      refine g_iadd C dX0_commit_25 ?_
      refine xp_17 C dX0_commit_26 ?_
      refine g_aload_n C dX0_commit_29 rfl ?_
      refine xg_15 C dX0_commit_30 ?_
      refine g_aload_n C dX0_commit_33 rfl ?_
      refine xg_16 C dX0_commit_34 ?_
      refine g_iload_n C dX0_commit_37 rfl ?_
      refine xl_16 C (j) (rfl) (hj) dX0_commit_38 ?_
      refine g_aload_n C dX0_commit_39 rfl ?_
      refine xg_17 C dX0_commit_40 ?_
      refine xs_15 C (ix (u 16 j)) (hp.1) (hp.2) dX0_commit_43 ?_
      refine g_aload_n C dX0_commit_44 rfl ?_
      refine xg_16 C dX0_commit_45 ?_
      refine g_iload_n C dX0_commit_48 rfl ?_
      refine g_iconst C (-1) dX0_commit_49 (by decide) ?_
      refine xs_16 C (j) (rfl) (hj) dX0_commit_50 ?_
      refine g_aload_n C dX0_commit_51 rfl ?_
      refine xg_17 C dX0_commit_52 ?_
      exact RT dX0_commit_55 rfl (⟨by rw [he]; rfl, by rw [he]; rfl⟩)
    · have h2 : u 16 j < 0 := Int32.not_le.mp h1
      have he : commitF u (nI j) = (-4, u) := by unfold commitF; rw [hix, if_neg h, if_pos h2]
      refine g_bipush C (-4) dX0_commit_16 (by decide) ?_
      exact RT dX0_commit_18 rfl (⟨by rw [he], by rw [he]⟩)
set_option maxHeartbeats 4000000 in
set_option maxRecDepth 100000 in
theorem mX_rollback {D : va_G} {o : Nat} {q : Nat → Nat} {tt : Nat → ClassId} {u : Mem} (W : WF u) {x : Int32} : Mi D (XK tt) o (XW o q tt) yX0_rollback cX0_rollback 6 .int r2 [.int x] u (fun r u' => r = (rollF u x).1 ∧ u' = (rollF u x).2) := by
  refine Mi.start 4 (by decide) (Nat.le_of_ble_eq_true rfl) rfl (List.forall_mem_cons.mpr ⟨rfl, List.forall_mem_cons.mpr ⟨rfl, fun _ h => absurd h List.not_mem_nil⟩⟩) ?_
  intro p l e s m args below meth c A Q C RT
  refine g_iload_n C dX0_rollback_0 rfl ?_
  refine g_calls C (mX_isSession x) (va_cwS 1 C.2.2.2.2.1 (lw_S q86 q87 q15 q88) rfl rfl rfl (by decide +kernel) ⟨by decide, by decide⟩) dX0_rollback_1 (Nat.le_of_ble_eq_true rfl) ⟨by decide, by decide⟩ rfl (fun y hy => ?_)
  subst hy
  refine g_if_eq C 16 dX0_rollback_4 (by decide) (fun h => ?_) (fun h => ?_)
  · have he : rollF u x = (-4, u) := if_pos h
    refine g_bipush C (-4) dX0_rollback_16 (by decide) ?_
    exact RT dX0_rollback_18 rfl (⟨by rw [he], by rw [he]⟩)
  · obtain ⟨j, hj, rfl⟩ := sess_of h
    have hix : ix (nI j) = j := ix_nI (by omega)
    refine g_aload_n C dX0_rollback_7 rfl ?_
    refine xg_16 C dX0_rollback_8 ?_
    refine g_iload_n C dX0_rollback_11 rfl ?_
    refine xl_16 C (j) (rfl) (hj) dX0_rollback_12 ?_
    refine g_if_ge C 19 dX0_rollback_13 (by decide) (fun h1 => ?_) (fun h1 => ?_)
    · have h2 : ¬ u 16 j < 0 := Int32.not_lt.mpr h1
      have hp := okN.ix (W 16 j) (by decide) h2
      have hE : rollF u (nI j) = (0, roll1F u j) := by unfold rollF; rw [hix, if_neg h, if_neg h2]
      obtain ⟨T, hT⟩ : ∃ T, T = roll1F u j := ⟨_, rfl⟩
      rw [← hT] at hE
      rw [hE] at RT
      have outer : ∀ (n rr : Nat) (u3 : Mem) (o4 o5 : Option Value), n + rr = 8 → WF u3 → T = roll2F (rbOut (u 16 j) n rr u3) j (u 16 j) → G p l e r2 s m args below meth c D A 6 0 0 Q (XW o q tt (u3)) 28 [some (.ref o), some (.int (nI j)), some (.int (u 16 j)), some (.int (nI rr)), o4, o5] [] := by
        intro n
        induction n with
        | zero =>
          intro rr u3 o4 o5 hn W3 he
          refine g_iload_n C dX0_rollback_28 rfl ?_
          refine g_bipush C (nI 8) dX0_rollback_29 (by decide) ?_
          refine g_icmp_ge C 120 dX0_rollback_31 (by decide) (fun h3 => ?_) (fun h3 => ?_)
          · refine g_aload_n C dX0_rollback_120 rfl ?_
            refine g_dup C dX0_rollback_121 rfl ?_
            refine xg_13 C dX0_rollback_122 ?_
            refine g_iconst C (1) dX0_rollback_125 (by decide) ?_
            refine g_iload_n C dX0_rollback_126 rfl ?_
            refine g_ishl C dX0_rollback_127 ?_
            refine g_iconst C (-1) dX0_rollback_128 (by decide) ?_
            refine g_ixor C dX0_rollback_129 ?_
            refine g_iand C dX0_rollback_130 ?_
            refine xp_13 C dX0_rollback_131 ?_
            refine g_aload_n C dX0_rollback_134 rfl ?_
            refine xg_16 C dX0_rollback_135 ?_
            refine g_iload_n C dX0_rollback_138 rfl ?_
            refine g_iconst C (-1) dX0_rollback_139 (by decide) ?_
            refine xs_16 C (j) (rfl) (hj) dX0_rollback_140 ?_
            refine g_iconst C (0) dX0_rollback_141 (by decide) ?_
            exact RT dX0_rollback_142 rfl (⟨rfl, he.symm⟩)
          · exact absurd (nI_le (by omega) (by omega)) h3
        | succ n ih =>
          intro rr u3 o4 o5 hn W3 he
          have hrr : rr < 8 := by omega
          unfold rbOut at he
          have inner : ∀ (k d : Nat) (u4 : Mem) (o5 : Option Value), k + d = 24 → WF u4 → T = roll2F (rbOut (u 16 j) n (rr + 1) (rbIn (u 16 j) rr k u4)) j (u 16 j) → G p l e r2 s m args below meth c D A 6 0 0 Q (XW o q tt (u4)) 37 [some (.ref o), some (.int (nI j)), some (.int (u 16 j)), some (.int (nI rr)), some (.int (nI d)), o5] [] := by
            intro k
            induction k with
            | zero =>
              intro d u4 o5 hd W4 he
              refine g_iload C dX0_rollback_37 rfl ?_
              refine g_bipush C (nI 24) dX0_rollback_39 (by decide) ?_
              refine g_icmp_ge C 114 dX0_rollback_41 (by decide) (fun h4 => ?_) (fun h4 => ?_)
              · refine g_iinc C (nI (rr + 1)) dX0_rollback_114 rfl (inc1 rr) (by decide) ?_
                refine g_goto C 28 dX0_rollback_117 (by decide) ?_
                exact ih (rr + 1) _ _ _ (by omega) W4 he
              · exact absurd (nI_le (by omega) (by omega)) h4
            | succ k ih2 =>
              intro d u4 o5 hd W4 he
              unfold rbIn at he
              refine g_iload C dX0_rollback_37 rfl ?_
              refine g_bipush C (nI 24) dX0_rollback_39 (by decide) ?_
              refine g_icmp_ge C 114 dX0_rollback_41 (by decide) (fun h4 => ?_) (fun h4 => ?_)
              · exact absurd h4 (nI_ge (by omega) (by omega))
              · refine g_aload_n C dX0_rollback_44 rfl ?_
                refine xg_1 C dX0_rollback_45 ?_
                refine g_iload_n C dX0_rollback_48 rfl ?_
                refine xl_1 C (rr) (rfl) (hrr) dX0_rollback_49 ?_
                refine g_if_lt C 114 dX0_rollback_50 (by decide) (fun h5 => ?_) (fun h5 => ?_)
                · rw [if_pos h5] at he
                  refine g_iinc C (nI (rr + 1)) dX0_rollback_114 rfl (inc1 rr) (by decide) ?_
                  refine g_goto C 28 dX0_rollback_117 (by decide) ?_
                  exact ih (rr + 1) _ _ _ (by omega) W4 he
                · have hc := okN.ix (W4 1 rr) (by decide) h5
                  rw [if_neg h5] at he
                  refine g_aload_n C dX0_rollback_53 rfl ?_
                  refine xg_5 C dX0_rollback_54 ?_
                  refine g_aload_n C dX0_rollback_57 rfl ?_
                  refine xg_1 C dX0_rollback_58 ?_
                  refine g_iload_n C dX0_rollback_61 rfl ?_
                  refine xl_1 C (rr) (rfl) (hrr) dX0_rollback_62 ?_
                  refine xl_5 C (ix (u4 1 rr)) (hc.1) (hc.2) dX0_rollback_63 ?_
                  refine g_iload_n C dX0_rollback_64 rfl ?_
                  refine g_icmp_ne C 114 dX0_rollback_65 (by decide) (fun h6 => ?_) (fun h6 => ?_)
                  · rw [if_neg h6] at he
                    refine g_iinc C (nI (rr + 1)) dX0_rollback_114 rfl (inc1 rr) (by decide) ?_
                    refine g_goto C 28 dX0_rollback_117 (by decide) ?_
                    exact ih (rr + 1) _ _ _ (by omega) W4 he
                  · rw [if_pos h6] at he
                    refine g_aload_n C dX0_rollback_68 rfl ?_
                    refine xg_1 C dX0_rollback_69 ?_
                    refine g_iload_n C dX0_rollback_72 rfl ?_
                    refine xl_1 C (rr) (rfl) (hrr) dX0_rollback_73 ?_
                    refine g_istore C dX0_rollback_74 (by decide) ?_
                    refine g_aload_n C dX0_rollback_76 rfl ?_
                    refine xg_0 C dX0_rollback_77 ?_
                    refine g_iload_n C dX0_rollback_80 rfl ?_
                    refine g_aload_n C dX0_rollback_81 rfl ?_
                    refine xg_4 C dX0_rollback_82 ?_
                    refine g_iload C dX0_rollback_85 rfl ?_
                    refine xl_4 C (ix (u4 1 rr)) (hc.1) (hc.2) dX0_rollback_87 ?_
                    refine xs_0 C (rr) (rfl) (hrr) dX0_rollback_88 ?_
                    refine g_aload_n C dX0_rollback_89 rfl ?_
                    refine xg_1 C dX0_rollback_90 ?_
                    refine g_iload_n C dX0_rollback_93 rfl ?_
                    refine g_aload_n C dX0_rollback_94 rfl ?_
                    refine xg_6 C dX0_rollback_95 ?_
                    refine g_iload C dX0_rollback_98 rfl ?_
                    refine xl_6 C (ix (u4 1 rr)) (hc.1) (hc.2) dX0_rollback_100 ?_
                    refine xs_1 C (rr) (rfl) (hrr) dX0_rollback_101 ?_
                    refine g_aload_n C dX0_rollback_102 rfl ?_
                    refine g_iload C dX0_rollback_103 rfl ?_
                    refine g_callv C (wf := XW o q tt) (mX_unlink (WF_pop1 W4 rr) (ix (u4 1 rr)) hc.1 hc.2) rfl (XW_obj _ _ _ _) (cwV 1 C.2.2.2.2.1 (lw_V q104 q106 qs3 q15 q107) rfl rfl rfl (by decide +kernel) ⟨by decide, by decide⟩) dX0_rollback_105 (Nat.le_of_ble_eq_true rfl) ⟨by decide, by decide⟩ rfl (fun u' hu => ?_)
                    subst hu
                    refine g_iinc C (nI (d + 1)) dX0_rollback_108 rfl (inc1 d) (by decide) ?_
                    refine g_goto C 37 dX0_rollback_111 (by decide) ?_
                    exact ih2 (d + 1) _ _ (by omega) (WF_pop W4 rr) he
          refine g_iload_n C dX0_rollback_28 rfl ?_
          refine g_bipush C (nI 8) dX0_rollback_29 (by decide) ?_
          refine g_icmp_ge C 120 dX0_rollback_31 (by decide) (fun h3 => ?_) (fun h3 => ?_)
          · exact absurd h3 (nI_ge (by omega) (by omega))
          · refine g_iconst C (0) dX0_rollback_34 (by decide) ?_
            refine g_istore C dX0_rollback_35 (by decide) ?_
            exact inner 24 0 _ _ rfl W3 he
      refine g_aload_n C dX0_rollback_19 rfl ?_
      refine xg_16 C dX0_rollback_20 ?_
      refine g_iload_n C dX0_rollback_23 rfl ?_
      refine xl_16 C (j) (rfl) (hj) dX0_rollback_24 ?_
      refine g_istore_n C dX0_rollback_25 (by decide) ?_
      refine g_iconst C (0) dX0_rollback_26 (by decide) ?_
      refine g_istore_n C dX0_rollback_27 (by decide) ?_
      exact outer 8 0 u none none rfl W hT
    · have h2 : u 16 j < 0 := Int32.not_le.mp h1
      have he : rollF u (nI j) = (-4, u) := by unfold rollF; rw [hix, if_neg h, if_pos h2]
      refine g_bipush C (-4) dX0_rollback_16 (by decide) ?_
      exact RT dX0_rollback_18 rfl (⟨by rw [he], by rw [he]⟩)
end
section
/-! ===== UndoReader: change, and what it answers ===== -/
set_option maxHeartbeats 4000000 in
set_option maxRecDepth 100000 in
theorem mX_change {D : va_G} {o : Nat} {q : Nat → Nat} {tt : Nat → ClassId} {u : Mem} (W : WF u) (hf : u 12 0 = nI 24 → ¬ u 10 0 < 0) {x r v : Int32} : Mi D (XK tt) o (XW o q tt) yX0_change cX0_change 5 .int r3 [.int x, .int r, .int v] u (fun y u' => y = (changeF u x r v).1 ∧ u' = (changeF u x r v).2) := by
  refine Mi.start 1 (by decide) (Nat.le_of_ble_eq_true rfl) rfl (List.forall_mem_cons.mpr ⟨rfl, List.forall_mem_cons.mpr ⟨rfl, List.forall_mem_cons.mpr ⟨rfl, List.forall_mem_cons.mpr ⟨rfl, fun _ h => absurd h List.not_mem_nil⟩⟩⟩⟩) ?_
  intro p l e s m args below meth c A Q C RT
  refine g_iload_n C dX0_change_0 rfl ?_
  refine g_calls C (mX_isSession x) (va_cwS 1 C.2.2.2.2.1 (lw_S q86 q87 q15 q88) rfl rfl rfl (by decide +kernel) ⟨by decide, by decide⟩) dX0_change_1 (Nat.le_of_ble_eq_true rfl) ⟨by decide, by decide⟩ rfl (fun y hy => ?_)
  subst hy
  refine g_if_eq C 14 dX0_change_4 (by decide) (fun h => ?_) (fun h => ?_)
  · have he : changeF u x r v = (-1, u) := if_pos h
    refine g_iconst C (-1) dX0_change_14 (by decide) ?_
    exact RT dX0_change_15 rfl (⟨by rw [he], by rw [he]⟩)
  · obtain ⟨j, hj, rfl⟩ := sess_of h
    have e1 : ix (nI j) = j := ix_nI (by omega)
    refine g_iload_n C dX0_change_7 rfl ?_
    refine g_calls C (mX_isRow r) (va_cwS 1 C.2.2.2.2.1 (lw_S q89 q90 q15 q91) rfl rfl rfl (by decide +kernel) ⟨by decide, by decide⟩) dX0_change_8 (Nat.le_of_ble_eq_true rfl) ⟨by decide, by decide⟩ rfl (fun y hy => ?_)
    subst hy
    refine g_if_ne C 16 dX0_change_11 (by decide) (fun h1 => ?_) (fun h1 => ?_)
    · obtain ⟨k, hk, rfl⟩ := row_of h1
      have e2 : ix (nI k) = k := ix_nI (by omega)
      have hE : changeF u (nI j) (nI k) v = (if ¬ lockF u k < 0 ∧ ¬ lockF u k = u 16 j then (-2, u) else if u 12 0 = nI 24 ∧ ¬ isOpenF u (ix (u 5 (ix (u 10 0)))) = 0 then (-3, u) else (0, chg3F (chg2F (chg1F u) j) j k v)) := by
        unfold changeF
        rw [if_neg h, if_neg h1, e1, e2]
      obtain ⟨T, hT⟩ : ∃ T, T = changeF u (nI j) (nI k) v := ⟨_, rfl⟩
      rw [← hT] at RT hE
      have J97 : ∀ u2 : Mem, WF u2 → ¬ u2 16 j < 0 → T = (0, chg3F u2 j k v) → G p l e r3 s m args below meth c D A 5 0 0 Q (XW o q tt (u2)) 97 [some (.ref o), some (.int (nI j)), some (.int (nI k)), some (.int (v)), some (.int (lockF u k))] [] := by
        intro u2 W2 h16 he
        have hp := okN.ix (W2 16 j) (by decide) h16
        refine g_aload_n C dX0_change_97 rfl ?_
        refine g_iload_n C dX0_change_98 rfl ?_
        refine g_aload_n C dX0_change_99 rfl ?_
        refine xg_16 C dX0_change_100 ?_
        refine g_iload_n C dX0_change_103 rfl ?_
        refine xl_16 C (j) (rfl) (hj) dX0_change_104 ?_
        refine g_callv C (wf := XW o q tt) (mX_note W2 k (ix (u2 16 j)) rfl hp.1 hk hp.2) rfl (XW_obj _ _ _ _) (cwV 2 C.2.2.2.2.1 (lw_V q116 q118 qs6 q15 q119) rfl rfl rfl (by decide +kernel) ⟨by decide, by decide⟩) dX0_change_105 (Nat.le_of_ble_eq_true rfl) ⟨by decide, by decide⟩ rfl (fun u' hu => ?_)
        subst hu
        refine g_aload_n C dX0_change_108 rfl ?_
        refine xg_0 C dX0_change_109 ?_
        refine g_iload_n C dX0_change_112 rfl ?_
        refine g_iload_n C dX0_change_113 rfl ?_
        refine xs_0 C (k) (rfl) (hk) dX0_change_114 ?_
        refine g_iconst C (0) dX0_change_115 (by decide) ?_
        exact RT dX0_change_116 rfl (⟨by rw [he], by rw [he]; rfl⟩)
      have J83 : ∀ u1 : Mem, WF u1 → T = (0, chg3F (chg2F u1 j) j k v) → G p l e r3 s m args below meth c D A 5 0 0 Q (XW o q tt (u1)) 83 [some (.ref o), some (.int (nI j)), some (.int (nI k)), some (.int (v)), some (.int (lockF u k))] [] := by
        intro u1 W1 he
        refine g_aload_n C dX0_change_83 rfl ?_
        refine xg_16 C dX0_change_84 ?_
        refine g_iload_n C dX0_change_87 rfl ?_
        refine xl_16 C (j) (rfl) (hj) dX0_change_88 ?_
        refine g_if_ge C 97 dX0_change_89 (by decide) (fun h2 => ?_) (fun h2 => ?_)
        · exact J97 u1 W1 (Int32.not_lt.mpr h2) (he.trans (congrArg (fun z => ((0 : Int32), chg3F z j k v)) (if_pos h2)))
        · refine g_aload_n C dX0_change_92 rfl ?_
          refine g_iload_n C dX0_change_93 rfl ?_
          refine g_callv C (wf := XW o q tt) (mX_open j rfl hj) rfl (XW_obj _ _ _ _) (cwV 1 C.2.2.2.2.1 (lw_V q108 q110 qs4 q15 q111) rfl rfl rfl (by decide +kernel) ⟨by decide, by decide⟩) dX0_change_94 (Nat.le_of_ble_eq_true rfl) ⟨by decide, by decide⟩ rfl (fun u' hu => ?_)
          subst hu
          exact J97 _ (WF_open W1 j) (open_16n u1 j) (he.trans (congrArg (fun z => ((0 : Int32), chg3F z j k v)) (if_neg h2)))
      have J42 : ¬ (¬ lockF u k < 0 ∧ ¬ lockF u k = u 16 j) → G p l e r3 s m args below meth c D A 5 0 0 Q (XW o q tt (u)) 42 [some (.ref o), some (.int (nI j)), some (.int (nI k)), some (.int (v)), some (.int (lockF u k))] [] := by
        intro hnl
        rw [if_neg hnl] at hE
        refine g_aload_n C dX0_change_42 rfl ?_
        refine xg_12 C dX0_change_43 ?_
        refine g_bipush C (nI 24) dX0_change_46 (by decide) ?_
        refine g_icmp_ne C 70 dX0_change_48 (by decide) (fun h3 => ?_) (fun h3 => ?_)
        · refine g_aload_n C dX0_change_70 rfl ?_
          refine xg_12 C dX0_change_71 ?_
          refine g_bipush C (nI 24) dX0_change_74 (by decide) ?_
          refine g_icmp_ne C 83 dX0_change_76 (by decide) (fun h4 => ?_) (fun h4 => ?_)
          · refine J83 u W (hE.trans ((if_neg (fun z => h3 z.1)).trans ?_))
            unfold chg1F
            rw [if_neg h3]
          · exact absurd h4 h3
        · have hf1 := okN.ix (W 10 0) (by decide) (hf h3)
          have hp := okP.ix (W 5 (ix (u 10 0))) (by decide)
          refine g_aload_n C dX0_change_51 rfl ?_
          refine g_aload_n C dX0_change_52 rfl ?_
          refine xg_5 C dX0_change_53 ?_
          refine g_aload_n C dX0_change_56 rfl ?_
          refine xg_10 C dX0_change_57 ?_
          refine xl_5 C (ix (u 10 0)) (hf1.1) (hf1.2) dX0_change_60 ?_
          refine g_calli C (wf := XW o q tt) (mX_isOpen (ix (u 5 (ix (u 10 0)))) hp.1 hp.2) rfl (XW_obj _ _ _ _) (cwV 1 C.2.2.2.2.1 (lw_V q96 q98 qs1 q15 q99) rfl rfl rfl (by decide +kernel) ⟨by decide, by decide⟩) dX0_change_61 (Nat.le_of_ble_eq_true rfl) ⟨by decide, by decide⟩ rfl (fun y u' hy => ?_)
          obtain ⟨rfl, rfl⟩ := hy
          refine g_if_eq C 70 dX0_change_64 (by decide) (fun h4 => ?_) (fun h4 => ?_)
          · refine g_aload_n C dX0_change_70 rfl ?_
            refine xg_12 C dX0_change_71 ?_
            refine g_bipush C (nI 24) dX0_change_74 (by decide) ?_
            refine g_icmp_ne C 83 dX0_change_76 (by decide) (fun h5 => ?_) (fun h5 => ?_)
            · exact absurd h3 h5
            · refine g_aload_n C dX0_change_79 rfl ?_
              refine g_callv C (wf := XW o q tt) (mX_forgetFirst W (hf h3)) rfl (XW_obj _ _ _ _) (cwV 0 C.2.2.2.2.1 (lw_V q100 q102 qs2 q15 q103) rfl rfl rfl (by decide +kernel) ⟨by decide, by decide⟩) dX0_change_80 (Nat.le_of_ble_eq_true rfl) ⟨by decide, by decide⟩ rfl (fun u' hu => ?_)
              subst hu
              refine J83 _ (WF_forget W) (hE.trans ((if_neg (fun z => z.2 h4)).trans ?_))
              unfold chg1F
              rw [if_pos h3]
          · rw [if_pos ⟨h3, h4⟩] at hE
            refine g_bipush C (-3) dX0_change_67 (by decide) ?_
            exact RT dX0_change_69 rfl (⟨by rw [hE], by rw [hE]⟩)
      refine g_aload_n C dX0_change_16 rfl ?_
      refine g_iload_n C dX0_change_17 rfl ?_
      refine g_calli C (wf := XW o q tt) (mX_lockOf W k rfl hk) rfl (XW_obj _ _ _ _) (cwV 1 C.2.2.2.2.1 (lw_V q92 q94 qs0 q15 q95) rfl rfl rfl (by decide +kernel) ⟨by decide, by decide⟩) dX0_change_18 (Nat.le_of_ble_eq_true rfl) ⟨by decide, by decide⟩ rfl (fun y u' hy => ?_)
      obtain ⟨rfl, rfl⟩ := hy
      refine g_istore C dX0_change_21 (by decide) ?_
      refine g_iload C dX0_change_23 rfl ?_
      refine g_if_lt C 42 dX0_change_25 (by decide) (fun h2 => ?_) (fun h2 => ?_)
      · exact J42 (fun z => z.1 h2)
      · refine g_iload C dX0_change_28 rfl ?_
        refine g_aload_n C dX0_change_30 rfl ?_
        refine xg_16 C dX0_change_31 ?_
        refine g_iload_n C dX0_change_34 rfl ?_
        refine xl_16 C (j) (rfl) (hj) dX0_change_35 ?_
        refine g_icmp_eq C 42 dX0_change_36 (by decide) (fun h3 => ?_) (fun h3 => ?_)
        · exact J42 (fun z => z.2 h3)
        · rw [if_pos ⟨h2, h3⟩] at hE
          refine g_bipush C (-2) dX0_change_39 (by decide) ?_
          exact RT dX0_change_41 rfl (⟨by rw [hE], by rw [hE]⟩)
    · have he : changeF u (nI j) r v = (-1, u) := by
        unfold changeF
        rw [if_neg h, if_pos h1]
      refine g_iconst C (-1) dX0_change_14 (by decide) ?_
      exact RT dX0_change_15 rfl (⟨by rw [he], by rw [he]⟩)
set_option maxHeartbeats 4000000 in
set_option maxRecDepth 100000 in
theorem mX_clock {D : va_G} {o : Nat} {q : Nat → Nat} {tt : Nat → ClassId} {u : Mem} : Mi D (XK tt) o (XW o q tt) yX0_clock cX0_clock 1 .int r0 [] u (fun r u' => r = u 17 0 ∧ u = u') := by
  refine Mi.start 0 (by decide) (Nat.le_of_ble_eq_true rfl) rfl (List.forall_mem_cons.mpr ⟨rfl, fun _ h => absurd h List.not_mem_nil⟩) ?_
  intro p l e s m args below meth c A Q C RT
  refine g_aload_n C dX0_clock_0 rfl ?_
  refine xg_17 C dX0_clock_1 ?_
  exact RT dX0_clock_4 rfl (⟨rfl, rfl⟩)
set_option maxHeartbeats 4000000 in
set_option maxRecDepth 100000 in
theorem mX_remembered {D : va_G} {o : Nat} {q : Nat → Nat} {tt : Nat → ClassId} {u : Mem} : Mi D (XK tt) o (XW o q tt) yX0_remembered cX0_remembered 1 .int r0 [] u (fun r u' => r = u 12 0 ∧ u = u') := by
  refine Mi.start 0 (by decide) (Nat.le_of_ble_eq_true rfl) rfl (List.forall_mem_cons.mpr ⟨rfl, fun _ h => absurd h List.not_mem_nil⟩) ?_
  intro p l e s m args below meth c A Q C RT
  refine g_aload_n C dX0_remembered_0 rfl ?_
  refine xg_12 C dX0_remembered_1 ?_
  exact RT dX0_remembered_4 rfl (⟨rfl, rfl⟩)
set_option maxHeartbeats 4000000 in
set_option maxRecDepth 100000 in
theorem mX_read {D : va_G} {o : Nat} {q : Nat → Nat} {tt : Nat → ClassId} {u : Mem} (W : WF u) {x r t : Int32} : Mi D (XK tt) o (XW o q tt) yX0_read cX0_read 5 .int r3 [.int x, .int r, .int t] u (fun y u' => y = readF u x r t ∧ u = u') := by
  refine Mi.start 1 (by decide) (Nat.le_of_ble_eq_true rfl) rfl (List.forall_mem_cons.mpr ⟨rfl, List.forall_mem_cons.mpr ⟨rfl, List.forall_mem_cons.mpr ⟨rfl, List.forall_mem_cons.mpr ⟨rfl, fun _ h => absurd h List.not_mem_nil⟩⟩⟩⟩) ?_
  intro p l e s m args below meth c A Q C RT
  refine g_iload_n C dX0_read_0 rfl ?_
  refine g_calls C (mX_isSession x) (va_cwS 1 C.2.2.2.2.1 (lw_S q86 q87 q15 q88) rfl rfl rfl (by decide +kernel) ⟨by decide, by decide⟩) dX0_read_1 (Nat.le_of_ble_eq_true rfl) ⟨by decide, by decide⟩ rfl (fun y hy => ?_)
  subst hy
  refine g_if_eq C 26 dX0_read_4 (by decide) (fun h => ?_) (fun h => ?_)
  · refine g_iconst C (-1) dX0_read_26 (by decide) ?_
    exact RT dX0_read_27 rfl (⟨by simp [readF, h], rfl⟩)
  · obtain ⟨j, hj, rfl⟩ := sess_of h
    have e1 : ix (nI j) = j := ix_nI (by omega)
    refine g_iload_n C dX0_read_7 rfl ?_
    refine g_calls C (mX_isRow r) (va_cwS 1 C.2.2.2.2.1 (lw_S q89 q90 q15 q91) rfl rfl rfl (by decide +kernel) ⟨by decide, by decide⟩) dX0_read_8 (Nat.le_of_ble_eq_true rfl) ⟨by decide, by decide⟩ rfl (fun y hy => ?_)
    subst hy
    refine g_if_eq C 26 dX0_read_11 (by decide) (fun h1 => ?_) (fun h1 => ?_)
    · refine g_iconst C (-1) dX0_read_26 (by decide) ?_
      exact RT dX0_read_27 rfl (⟨by unfold readF; rw [if_neg h, if_pos h1], rfl⟩)
    · obtain ⟨k, hk, rfl⟩ := row_of h1
      have e2 : ix (nI k) = k := ix_nI (by omega)
      refine g_iload_n C dX0_read_14 rfl ?_
      refine g_if_lt C 26 dX0_read_15 (by decide) (fun h2 => ?_) (fun h2 => ?_)
      · refine g_iconst C (-1) dX0_read_26 (by decide) ?_
        exact RT dX0_read_27 rfl (⟨by unfold readF; rw [if_neg h, if_neg h1, if_pos h2], rfl⟩)
      · refine g_iload_n C dX0_read_18 rfl ?_
        refine g_aload_n C dX0_read_19 rfl ?_
        refine xg_17 C dX0_read_20 ?_
        refine g_icmp_le C 28 dX0_read_23 (by decide) (fun h3 => ?_) (fun h3 => ?_)
        · have hE : readF u (nI j) (nI k) t = (if lockF u k < 0 then seenF u k t else if lockF u k = u 16 j then u 0 k else seenF u k t) := by
            unfold readF
            rw [if_neg h, if_neg h1, if_neg h2, if_pos h3, e1, e2]
          have J58 : readF u (nI j) (nI k) t = seenF u k t → G p l e r3 s m args below meth c D A 5 0 0 Q (XW o q tt (u)) 58 [some (.ref o), some (.int (nI j)), some (.int (nI k)), some (.int (t)), some (.int (lockF u k))] [] := by
            intro he
            refine g_aload_n C dX0_read_58 rfl ?_
            refine g_iload_n C dX0_read_59 rfl ?_
            refine g_iload_n C dX0_read_60 rfl ?_
            refine g_calli C (wf := XW o q tt) (mX_seen W k rfl hk) rfl (XW_obj _ _ _ _) (cwV 2 C.2.2.2.2.1 (lw_V q136 q138 qs7 q15 q139) rfl rfl rfl (by decide +kernel) ⟨by decide, by decide⟩) dX0_read_61 (Nat.le_of_ble_eq_true rfl) ⟨by decide, by decide⟩ rfl (fun y u' hy => ?_)
            obtain ⟨rfl, rfl⟩ := hy
            exact RT dX0_read_64 rfl (⟨he.symm, rfl⟩)
          refine g_aload_n C dX0_read_28 rfl ?_
          refine g_iload_n C dX0_read_29 rfl ?_
          refine g_calli C (wf := XW o q tt) (mX_lockOf W k rfl hk) rfl (XW_obj _ _ _ _) (cwV 1 C.2.2.2.2.1 (lw_V q92 q94 qs0 q15 q95) rfl rfl rfl (by decide +kernel) ⟨by decide, by decide⟩) dX0_read_30 (Nat.le_of_ble_eq_true rfl) ⟨by decide, by decide⟩ rfl (fun y u' hy => ?_)
          obtain ⟨rfl, rfl⟩ := hy
          refine g_istore C dX0_read_33 (by decide) ?_
          refine g_iload C dX0_read_35 rfl ?_
          refine g_if_lt C 58 dX0_read_37 (by decide) (fun h4 => ?_) (fun h4 => ?_)
          · exact J58 (hE.trans (if_pos h4))
          · refine g_iload C dX0_read_40 rfl ?_
            refine g_aload_n C dX0_read_42 rfl ?_
            refine xg_16 C dX0_read_43 ?_
            refine g_iload_n C dX0_read_46 rfl ?_
            refine xl_16 C (j) (rfl) (hj) dX0_read_47 ?_
            refine g_icmp_ne C 58 dX0_read_48 (by decide) (fun h5 => ?_) (fun h5 => ?_)
            · exact J58 (hE.trans ((if_neg h4).trans (if_neg h5)))
            · refine g_aload_n C dX0_read_51 rfl ?_
              refine xg_0 C dX0_read_52 ?_
              refine g_iload_n C dX0_read_55 rfl ?_
              refine xl_0 C (k) (rfl) (hk) dX0_read_56 ?_
              exact RT dX0_read_57 rfl (⟨(hE.trans ((if_neg h4).trans (if_pos h5))).symm, rfl⟩)
        · refine g_iconst C (-1) dX0_read_26 (by decide) ?_
          exact RT dX0_read_27 rfl (⟨by unfold readF; rw [if_neg h, if_neg h1, if_neg h2, if_neg h3], rfl⟩)
set_option maxHeartbeats 4000000 in
set_option maxRecDepth 100000 in
theorem mX_raw {D : va_G} {o : Nat} {q : Nat → Nat} {tt : Nat → ClassId} {u : Mem} {x : Int32} : Mi D (XK tt) o (XW o q tt) yX0_raw cX0_raw 2 .int r1 [.int x] u (fun r u' => r = rawF u x ∧ u = u') := by
  refine Mi.start 0 (by decide) (Nat.le_of_ble_eq_true rfl) rfl (List.forall_mem_cons.mpr ⟨rfl, List.forall_mem_cons.mpr ⟨rfl, fun _ h => absurd h List.not_mem_nil⟩⟩) ?_
  intro p l e s m args below meth c A Q C RT
  refine g_iload_n C dX0_raw_0 rfl ?_
  refine g_calls C (mX_isRow x) (va_cwS 1 C.2.2.2.2.1 (lw_S q89 q90 q15 q91) rfl rfl rfl (by decide +kernel) ⟨by decide, by decide⟩) dX0_raw_1 (Nat.le_of_ble_eq_true rfl) ⟨by decide, by decide⟩ rfl (fun y hy => ?_)
  subst hy
  refine g_if_eq C 16 dX0_raw_4 (by decide) (fun h => ?_) (fun h => ?_)
  · refine g_iconst C (0) dX0_raw_16 (by decide) ?_
    exact RT dX0_raw_17 rfl (⟨(if_pos h).symm, rfl⟩)
  · obtain ⟨j, hj, rfl⟩ := row_of h
    have e1 : ix (nI j) = j := ix_nI (by omega)
    refine g_aload_n C dX0_raw_7 rfl ?_
    refine xg_0 C dX0_raw_8 ?_
    refine g_iload_n C dX0_raw_11 rfl ?_
    refine xl_0 C (j) (rfl) (hj) dX0_raw_12 ?_
    refine g_goto C 17 dX0_raw_13 (by decide) ?_
    exact RT dX0_raw_17 rfl (⟨by unfold rawF; rw [if_neg h, e1], rfl⟩)
set_option maxHeartbeats 4000000 in
set_option maxRecDepth 100000 in
theorem mX_oldest {D : va_G} {o : Nat} {q : Nat → Nat} {tt : Nat → ClassId} {u : Mem} {x : Int32} : Mi D (XK tt) o (XW o q tt) yX0_oldest cX0_oldest 2 .int r1 [.int x] u (fun r u' => r = oldestF u x ∧ u = u') := by
  refine Mi.start 0 (by decide) (Nat.le_of_ble_eq_true rfl) rfl (List.forall_mem_cons.mpr ⟨rfl, List.forall_mem_cons.mpr ⟨rfl, fun _ h => absurd h List.not_mem_nil⟩⟩) ?_
  intro p l e s m args below meth c A Q C RT
  refine g_iload_n C dX0_oldest_0 rfl ?_
  refine g_calls C (mX_isRow x) (va_cwS 1 C.2.2.2.2.1 (lw_S q89 q90 q15 q91) rfl rfl rfl (by decide +kernel) ⟨by decide, by decide⟩) dX0_oldest_1 (Nat.le_of_ble_eq_true rfl) ⟨by decide, by decide⟩ rfl (fun y hy => ?_)
  subst hy
  refine g_if_eq C 16 dX0_oldest_4 (by decide) (fun h => ?_) (fun h => ?_)
  · refine g_iconst C (-1) dX0_oldest_16 (by decide) ?_
    exact RT dX0_oldest_17 rfl (⟨(if_pos h).symm, rfl⟩)
  · obtain ⟨j, hj, rfl⟩ := row_of h
    have e1 : ix (nI j) = j := ix_nI (by omega)
    refine g_aload_n C dX0_oldest_7 rfl ?_
    refine xg_2 C dX0_oldest_8 ?_
    refine g_iload_n C dX0_oldest_11 rfl ?_
    refine xl_2 C (j) (rfl) (hj) dX0_oldest_12 ?_
    refine g_goto C 17 dX0_oldest_13 (by decide) ?_
    exact RT dX0_oldest_17 rfl (⟨by unfold oldestF; rw [if_neg h, e1], rfl⟩)
set_option maxHeartbeats 4000000 in
set_option maxRecDepth 100000 in
theorem mX_changes {D : va_G} {o : Nat} {q : Nat → Nat} {tt : Nat → ClassId} {u : Mem} (W : WF u) {x : Int32} : Mi D (XK tt) o (XW o q tt) yX0_changes cX0_changes 2 .int r1 [.int x] u (fun r u' => r = changesF u x ∧ u = u') := by
  refine Mi.start 0 (by decide) (Nat.le_of_ble_eq_true rfl) rfl (List.forall_mem_cons.mpr ⟨rfl, List.forall_mem_cons.mpr ⟨rfl, fun _ h => absurd h List.not_mem_nil⟩⟩) ?_
  intro p l e s m args below meth c A Q C RT
  refine g_iload_n C dX0_changes_0 rfl ?_
  refine g_calls C (mX_isSession x) (va_cwS 1 C.2.2.2.2.1 (lw_S q86 q87 q15 q88) rfl rfl rfl (by decide +kernel) ⟨by decide, by decide⟩) dX0_changes_1 (Nat.le_of_ble_eq_true rfl) ⟨by decide, by decide⟩ rfl (fun y hy => ?_)
  subst hy
  refine g_if_eq C 30 dX0_changes_4 (by decide) (fun h => ?_) (fun h => ?_)
  · refine g_iconst C (0) dX0_changes_30 (by decide) ?_
    exact RT dX0_changes_31 rfl (⟨(if_pos h).symm, rfl⟩)
  · obtain ⟨j, hj, rfl⟩ := sess_of h
    have e1 : ix (nI j) = j := ix_nI (by omega)
    refine g_aload_n C dX0_changes_7 rfl ?_
    refine xg_16 C dX0_changes_8 ?_
    refine g_iload_n C dX0_changes_11 rfl ?_
    refine xl_16 C (j) (rfl) (hj) dX0_changes_12 ?_
    refine g_if_lt C 30 dX0_changes_13 (by decide) (fun h1 => ?_) (fun h1 => ?_)
    · refine g_iconst C (0) dX0_changes_30 (by decide) ?_
      exact RT dX0_changes_31 rfl (⟨by unfold changesF; rw [e1, if_neg h, if_pos h1], rfl⟩)
    · have hp := okN.ix (W 16 j) (by decide) h1
      refine g_aload_n C dX0_changes_16 rfl ?_
      refine xg_14 C dX0_changes_17 ?_
      refine g_aload_n C dX0_changes_20 rfl ?_
      refine xg_16 C dX0_changes_21 ?_
      refine g_iload_n C dX0_changes_24 rfl ?_
      refine xl_16 C (j) (rfl) (hj) dX0_changes_25 ?_
      refine xl_14 C (ix (u 16 j)) (hp.1) (hp.2) dX0_changes_26 ?_
      refine g_goto C 31 dX0_changes_27 (by decide) ?_
      exact RT dX0_changes_31 rfl (⟨by unfold changesF; rw [e1, if_neg h, if_neg h1], rfl⟩)
set_option maxHeartbeats 4000000 in
set_option maxRecDepth 100000 in
theorem mX_holder {D : va_G} {o : Nat} {q : Nat → Nat} {tt : Nat → ClassId} {u : Mem} (W : WF u) {x : Int32} : Mi D (XK tt) o (XW o q tt) yX0_holder cX0_holder 4 .int r2 [.int x] u (fun r u' => r = holderF u x ∧ u = u') := by
  refine Mi.start 2 (by decide) (Nat.le_of_ble_eq_true rfl) rfl (List.forall_mem_cons.mpr ⟨rfl, List.forall_mem_cons.mpr ⟨rfl, fun _ h => absurd h List.not_mem_nil⟩⟩) ?_
  intro p l e s m args below meth c A Q C RT
  refine g_iload_n C dX0_holder_0 rfl ?_
  refine g_calls C (mX_isRow x) (va_cwS 1 C.2.2.2.2.1 (lw_S q89 q90 q15 q91) rfl rfl rfl (by decide +kernel) ⟨by decide, by decide⟩) dX0_holder_1 (Nat.le_of_ble_eq_true rfl) ⟨by decide, by decide⟩ rfl (fun y hy => ?_)
  subst hy
  refine g_if_ne C 10 dX0_holder_4 (by decide) (fun h => ?_) (fun h => ?_)
  · obtain ⟨k, hk, rfl⟩ := row_of h
    have e1 : ix (nI k) = k := ix_nI (by omega)
    have hE : holderF u (nI k) = holdL u (lockF u k) 4 0 := by
      unfold holderF
      rw [if_neg h, e1]
    obtain ⟨T, hT⟩ : ∃ T, T = holderF u (nI k) := ⟨_, rfl⟩
    rw [← hT] at RT hE
    have loop : ∀ (n z : Nat), n + z = 4 → T = holdL u (lockF u k) n z → G p l e r2 s m args below meth c D A 4 0 0 Q (XW o q tt (u)) 18 [some (.ref o), some (.int (nI k)), some (.int (lockF u k)), some (.int (nI z))] [] := by
      intro n
      induction n with
      | zero =>
        intro z hz he
        refine g_iload_n C dX0_holder_18 rfl ?_
        refine g_iconst C (nI 4) dX0_holder_19 (by decide) ?_
        refine g_icmp_ge C 45 dX0_holder_20 (by decide) (fun h1 => ?_) (fun h1 => ?_)
        · refine g_bipush C (-4) dX0_holder_45 (by decide) ?_
          exact RT dX0_holder_47 rfl (⟨he.symm, rfl⟩)
        · exact absurd (nI_le (by omega) (by omega)) h1
      | succ n ih =>
        intro z hz he
        have hz4 : z < 4 := by omega
        unfold holdL at he
        refine g_iload_n C dX0_holder_18 rfl ?_
        refine g_iconst C (nI 4) dX0_holder_19 (by decide) ?_
        refine g_icmp_ge C 45 dX0_holder_20 (by decide) (fun h1 => ?_) (fun h1 => ?_)
        · exact absurd h1 (nI_ge (by omega) (by omega))
        · refine g_iload_n C dX0_holder_23 rfl ?_
          refine g_if_lt C 39 dX0_holder_24 (by decide) (fun h2 => ?_) (fun h2 => ?_)
          · rw [if_pos h2] at he
            refine g_iinc C (nI (z + 1)) dX0_holder_39 rfl (inc1 z) (by decide) ?_
            refine g_goto C 18 dX0_holder_42 (by decide) ?_
            exact ih (z + 1) (by omega) he
          · rw [if_neg h2] at he
            refine g_aload_n C dX0_holder_27 rfl ?_
            refine xg_16 C dX0_holder_28 ?_
            refine g_iload_n C dX0_holder_31 rfl ?_
            refine xl_16 C (z) (rfl) (hz4) dX0_holder_32 ?_
            refine g_iload_n C dX0_holder_33 rfl ?_
            refine g_icmp_ne C 39 dX0_holder_34 (by decide) (fun h3 => ?_) (fun h3 => ?_)
            · rw [if_neg h3] at he
              refine g_iinc C (nI (z + 1)) dX0_holder_39 rfl (inc1 z) (by decide) ?_
              refine g_goto C 18 dX0_holder_42 (by decide) ?_
              exact ih (z + 1) (by omega) he
            · rw [if_pos h3] at he
              refine g_iload_n C dX0_holder_37 rfl ?_
              exact RT dX0_holder_38 rfl (⟨he.symm, rfl⟩)
    refine g_aload_n C dX0_holder_10 rfl ?_
    refine g_iload_n C dX0_holder_11 rfl ?_
    refine g_calli C (wf := XW o q tt) (mX_lockOf W k rfl hk) rfl (XW_obj _ _ _ _) (cwV 1 C.2.2.2.2.1 (lw_V q92 q94 qs0 q15 q95) rfl rfl rfl (by decide +kernel) ⟨by decide, by decide⟩) dX0_holder_12 (Nat.le_of_ble_eq_true rfl) ⟨by decide, by decide⟩ rfl (fun y u' hy => ?_)
    obtain ⟨rfl, rfl⟩ := hy
    refine g_istore_n C dX0_holder_15 (by decide) ?_
    refine g_iconst C (0) dX0_holder_16 (by decide) ?_
    refine g_istore_n C dX0_holder_17 (by decide) ?_
    exact loop 4 0 rfl hE
  · refine g_bipush C (-4) dX0_holder_7 (by decide) ?_
    exact RT dX0_holder_9 rfl (⟨(if_pos h).symm, rfl⟩)
set_option maxHeartbeats 4000000 in
set_option maxRecDepth 100000 in
theorem mX_locks {D : va_G} {o : Nat} {q : Nat → Nat} {tt : Nat → ClassId} {u : Mem} (W : WF u) {x : Int32} : Mi D (XK tt) o (XW o q tt) yX0_locks cX0_locks 5 .int r2 [.int x] u (fun r u' => r = lockL u x 8 0 0 ∧ u = u') := by
  refine Mi.start 3 (by decide) (Nat.le_of_ble_eq_true rfl) rfl (List.forall_mem_cons.mpr ⟨rfl, List.forall_mem_cons.mpr ⟨rfl, fun _ h => absurd h List.not_mem_nil⟩⟩) ?_
  intro p l e s m args below meth c A Q C RT
  obtain ⟨T, hT⟩ : ∃ T, T = lockL u x 8 0 0 := ⟨_, rfl⟩
  rw [← hT] at RT
  have loop : ∀ (n r : Nat) (set : Int32) (o4 : Option Value), n + r = 8 → T = lockL u x n r set → G p l e r2 s m args below meth c D A 5 0 0 Q (XW o q tt (u)) 4 [some (.ref o), some (.int (x)), some (.int (set)), some (.int (nI r)), o4] [] := by
    intro n
    induction n with
    | zero =>
      intro r set o4 hr he
      refine g_iload_n C dX0_locks_4 rfl ?_
      refine g_bipush C (nI 8) dX0_locks_5 (by decide) ?_
      refine g_icmp_ge C 52 dX0_locks_7 (by decide) (fun h => ?_) (fun h => ?_)
      · refine g_iload_n C dX0_locks_52 rfl ?_
        exact RT dX0_locks_53 rfl (⟨he.symm, rfl⟩)
      · exact absurd (nI_le (by omega) (by omega)) h
    | succ n ih =>
      intro r set o4 hr he
      have hr8 : r < 8 := by omega
      unfold lockL at he
      have J46 : ∀ set' : Int32, set' = lockStep u x r set → G p l e r2 s m args below meth c D A 5 0 0 Q (XW o q tt (u)) 46 [some (.ref o), some (.int (x)), some (.int (set')), some (.int (nI r)), some (.int (lockF u r))] [] := by
        intro set' hs
        refine g_iinc C (nI (r + 1)) dX0_locks_46 rfl (inc1 r) (by decide) ?_
        refine g_goto C 4 dX0_locks_49 (by decide) ?_
        exact ih (r + 1) set' _ (by omega) (by rw [hs]; exact he)
      refine g_iload_n C dX0_locks_4 rfl ?_
      refine g_bipush C (nI 8) dX0_locks_5 (by decide) ?_
      refine g_icmp_ge C 52 dX0_locks_7 (by decide) (fun h => ?_) (fun h => ?_)
      · exact absurd h (nI_ge (by omega) (by omega))
      · refine g_aload_n C dX0_locks_10 rfl ?_
        refine g_iload_n C dX0_locks_11 rfl ?_
        refine g_calli C (wf := XW o q tt) (mX_lockOf W r rfl hr8) rfl (XW_obj _ _ _ _) (cwV 1 C.2.2.2.2.1 (lw_V q92 q94 qs0 q15 q95) rfl rfl rfl (by decide +kernel) ⟨by decide, by decide⟩) dX0_locks_12 (Nat.le_of_ble_eq_true rfl) ⟨by decide, by decide⟩ rfl (fun y u' hy => ?_)
        obtain ⟨rfl, rfl⟩ := hy
        refine g_istore C dX0_locks_15 (by decide) ?_
        refine g_iload_n C dX0_locks_17 rfl ?_
        refine g_calls C (mX_isSession x) (va_cwS 1 C.2.2.2.2.1 (lw_S q86 q87 q15 q88) rfl rfl rfl (by decide +kernel) ⟨by decide, by decide⟩) dX0_locks_18 (Nat.le_of_ble_eq_true rfl) ⟨by decide, by decide⟩ rfl (fun y hy => ?_)
        subst hy
        refine g_if_eq C 46 dX0_locks_21 (by decide) (fun h1 => ?_) (fun h1 => ?_)
        · exact J46 set (if_pos h1).symm
        · obtain ⟨j, hj, ej⟩ := sess_of h1
          have e1 : ix x = j := by rw [ej]; exact ix_nI (by omega)
          refine g_iload C dX0_locks_24 rfl ?_
          refine g_if_lt C 46 dX0_locks_26 (by decide) (fun h2 => ?_) (fun h2 => ?_)
          · exact J46 set ((if_neg h1).trans (if_pos h2)).symm
          · refine g_iload C dX0_locks_29 rfl ?_
            refine g_aload_n C dX0_locks_31 rfl ?_
            refine xg_16 C dX0_locks_32 ?_
            refine g_iload_n C dX0_locks_35 rfl ?_
            refine xl_16 C (j) (ej) (hj) dX0_locks_36 ?_
            refine g_icmp_ne C 46 dX0_locks_37 (by decide) (fun h3 => ?_) (fun h3 => ?_)
            · exact J46 set ((if_neg h1).trans ((if_neg h2).trans (if_neg (by rw [e1]; exact h3)))).symm
            · refine g_iload_n C dX0_locks_40 rfl ?_
              refine g_iconst C (1) dX0_locks_41 (by decide) ?_
              refine g_iload_n C dX0_locks_42 rfl ?_
              refine g_ishl C dX0_locks_43 ?_
              refine g_ior C dX0_locks_44 ?_
              refine g_istore_n C dX0_locks_45 (by decide) ?_
              exact J46 _ ((if_neg h1).trans ((if_neg h2).trans (if_pos (by rw [e1]; exact h3)))).symm
  refine g_iconst C (0) dX0_locks_0 (by decide) ?_
  refine g_istore_n C dX0_locks_1 (by decide) ?_
  refine g_iconst C (0) dX0_locks_2 (by decide) ?_
  refine g_istore_n C dX0_locks_3 (by decide) ?_
  exact loop 8 0 0 none rfl hT
set_option maxHeartbeats 4000000 in
set_option maxRecDepth 100000 in
theorem mX_changedSince {D : va_G} {o : Nat} {q : Nat → Nat} {tt : Nat → ClassId} {u : Mem} (W : WF u) {t : Int32} : Mi D (XK tt) o (XW o q tt) yX0_changedSince cX0_changedSince 7 .int r3 [.int t] u (fun r u' => r = chsF u t ∧ u = u') := by
  refine Mi.start 5 (by decide) (Nat.le_of_ble_eq_true rfl) rfl (List.forall_mem_cons.mpr ⟨rfl, List.forall_mem_cons.mpr ⟨rfl, fun _ h => absurd h List.not_mem_nil⟩⟩) ?_
  intro p l e s m args below meth c A Q C RT
  refine g_iload_n C dX0_changedSince_0 rfl ?_
  refine g_if_lt C 12 dX0_changedSince_1 (by decide) (fun h => ?_) (fun h => ?_)
  · refine g_iconst C (0) dX0_changedSince_12 (by decide) ?_
    exact RT dX0_changedSince_13 rfl (⟨(if_pos h).symm, rfl⟩)
  · refine g_iload_n C dX0_changedSince_4 rfl ?_
    refine g_aload_n C dX0_changedSince_5 rfl ?_
    refine xg_17 C dX0_changedSince_6 ?_
    refine g_icmp_le C 14 dX0_changedSince_9 (by decide) (fun h1 => ?_) (fun h1 => ?_)
    · have hE : chsF u t = chsL u t 8 0 0 := (if_neg h).trans (if_pos h1)
      obtain ⟨T, hT⟩ : ∃ T, T = chsF u t := ⟨_, rfl⟩
      rw [← hT] at RT hE
      have loop : ∀ (n r : Nat) (set : Int32) (o4 o5 o6 : Option Value), n + r = 8 → T = chsL u t n r set → G p l e r3 s m args below meth c D A 7 0 0 Q (XW o q tt (u)) 18 [some (.ref o), some (.int (t)), some (.int (set)), some (.int (nI r)), o4, o5, o6] [] := by
        intro n
        induction n with
        | zero =>
          intro r set o4 o5 o6 hr he
          refine g_iload_n C dX0_changedSince_18 rfl ?_
          refine g_bipush C (nI 8) dX0_changedSince_19 (by decide) ?_
          refine g_icmp_ge C 88 dX0_changedSince_21 (by decide) (fun h2 => ?_) (fun h2 => ?_)
          · refine g_iload_n C dX0_changedSince_88 rfl ?_
            exact RT dX0_changedSince_89 rfl (⟨he.symm, rfl⟩)
          · exact absurd (nI_le (by omega) (by omega)) h2
        | succ n ih =>
          intro r set o4 o5 o6 hr he
          have hr8 : r < 8 := by omega
          unfold chsL at he
          refine g_iload_n C dX0_changedSince_18 rfl ?_
          refine g_bipush C (nI 8) dX0_changedSince_19 (by decide) ?_
          refine g_icmp_ge C 88 dX0_changedSince_21 (by decide) (fun h2 => ?_) (fun h2 => ?_)
          · exact absurd h2 (nI_ge (by omega) (by omega))
          · refine g_aload_n C dX0_changedSince_24 rfl ?_
            refine g_iload_n C dX0_changedSince_25 rfl ?_
            refine g_iload_n C dX0_changedSince_26 rfl ?_
            refine g_calli C (wf := XW o q tt) (mX_seen W r rfl hr8) rfl (XW_obj _ _ _ _) (cwV 2 C.2.2.2.2.1 (lw_V q136 q138 qs7 q15 q139) rfl rfl rfl (by decide +kernel) ⟨by decide, by decide⟩) dX0_changedSince_27 (Nat.le_of_ble_eq_true rfl) ⟨by decide, by decide⟩ rfl (fun y u' hy => ?_)
            obtain ⟨rfl, rfl⟩ := hy
            refine g_istore C dX0_changedSince_30 (by decide) ?_
            refine g_aload_n C dX0_changedSince_32 rfl ?_
            refine g_iload_n C dX0_changedSince_33 rfl ?_
            refine g_aload_n C dX0_changedSince_34 rfl ?_
            refine xg_17 C dX0_changedSince_35 ?_
            refine g_calli C (wf := XW o q tt) (mX_seen W r rfl hr8) rfl (XW_obj _ _ _ _) (cwV 2 C.2.2.2.2.1 (lw_V q136 q138 qs7 q15 q139) rfl rfl rfl (by decide +kernel) ⟨by decide, by decide⟩) dX0_changedSince_38 (Nat.le_of_ble_eq_true rfl) ⟨by decide, by decide⟩ rfl (fun y u' hy => ?_)
            obtain ⟨rfl, rfl⟩ := hy
            refine g_istore C dX0_changedSince_41 (by decide) ?_
            refine g_aload_n C dX0_changedSince_43 rfl ?_
            refine xg_2 C dX0_changedSince_44 ?_
            refine g_iload_n C dX0_changedSince_47 rfl ?_
            refine xl_2 C (r) (rfl) (hr8) dX0_changedSince_48 ?_
            refine g_iload_n C dX0_changedSince_49 rfl ?_
            refine g_icmp_gt C 57 dX0_changedSince_50 (by decide) (fun h3 => ?_) (fun h3 => ?_)
            · have hs : chsStep u t r set = set ||| 0 := congrArg (fun z => set ||| z) (if_pos h3)
              rw [hs] at he
              refine g_iconst C (0) dX0_changedSince_57 (by decide) ?_
              refine g_istore C dX0_changedSince_58 (by decide) ?_
              refine g_iload_n C dX0_changedSince_60 rfl ?_
              refine g_iload C dX0_changedSince_61 rfl ?_
              refine g_if_eq C 79 dX0_changedSince_63 (by decide) (fun h4 => ?_) (fun h4 => ?_)
              · refine g_iconst C (0) dX0_changedSince_79 (by decide) ?_
                refine g_ior C dX0_changedSince_80 ?_
                refine g_istore_n C dX0_changedSince_81 (by decide) ?_
                refine g_iinc C (nI (r + 1)) dX0_changedSince_82 rfl (inc1 r) (by decide) ?_
                refine g_goto C 18 dX0_changedSince_85 (by decide) ?_
                exact ih (r + 1) _ _ _ _ (by omega) he
              · exact absurd rfl h4
            · refine g_iconst C (1) dX0_changedSince_53 (by decide) ?_
              refine g_goto C 58 dX0_changedSince_54 (by decide) ?_
              refine g_istore C dX0_changedSince_58 (by decide) ?_
              refine g_iload_n C dX0_changedSince_60 rfl ?_
              refine g_iload C dX0_changedSince_61 rfl ?_
              refine g_if_eq C 79 dX0_changedSince_63 (by decide) (fun h4 => ?_) (fun h4 => ?_)
              · exact absurd h4 (by decide)
              · refine g_iload C dX0_changedSince_66 rfl ?_
                refine g_iload C dX0_changedSince_68 rfl ?_
                refine g_icmp_eq C 79 dX0_changedSince_70 (by decide) (fun h5 => ?_) (fun h5 => ?_)
                · have hs : chsStep u t r set = set ||| 0 := congrArg (fun z => set ||| z) ((if_neg h3).trans (if_pos h5))
                  rw [hs] at he
                  refine g_iconst C (0) dX0_changedSince_79 (by decide) ?_
                  refine g_ior C dX0_changedSince_80 ?_
                  refine g_istore_n C dX0_changedSince_81 (by decide) ?_
                  refine g_iinc C (nI (r + 1)) dX0_changedSince_82 rfl (inc1 r) (by decide) ?_
                  refine g_goto C 18 dX0_changedSince_85 (by decide) ?_
                  exact ih (r + 1) _ _ _ _ (by omega) he
                · have hs : chsStep u t r set = set ||| bitm r := congrArg (fun z => set ||| z) ((if_neg h3).trans (if_neg h5))
                  rw [hs] at he
                  refine g_iconst C (1) dX0_changedSince_73 (by decide) ?_
                  refine g_iload_n C dX0_changedSince_74 rfl ?_
                  refine g_ishl C dX0_changedSince_75 ?_
                  refine g_goto C 80 dX0_changedSince_76 (by decide) ?_
                  refine g_ior C dX0_changedSince_80 ?_
                  refine g_istore_n C dX0_changedSince_81 (by decide) ?_
                  refine g_iinc C (nI (r + 1)) dX0_changedSince_82 rfl (inc1 r) (by decide) ?_
                  refine g_goto C 18 dX0_changedSince_85 (by decide) ?_
                  exact ih (r + 1) _ _ _ _ (by omega) he
      refine g_iconst C (0) dX0_changedSince_14 (by decide) ?_
      refine g_istore_n C dX0_changedSince_15 (by decide) ?_
      refine g_iconst C (0) dX0_changedSince_16 (by decide) ?_
      refine g_istore_n C dX0_changedSince_17 (by decide) ?_
      exact loop 8 0 0 none none none rfl hE
    · refine g_iconst C (0) dX0_changedSince_12 (by decide) ?_
      exact RT dX0_changedSince_13 rfl (⟨((if_neg h).trans (if_neg h1)).symm, rfl⟩)
end
section
/-! ===== what the methods of UndoReaderModel compute (N: its size) ===== -/
theorem gt3 (x : Int32) : nI 3 < x ↔ nI 4 ≤ x := by
  rw [Int32.lt_iff_toInt_lt, Int32.le_iff_toInt_le, show (nI 3).toInt = 3 from by decide, show (nI 4).toInt = 4 from by decide]
  omega
theorem gt7 (x : Int32) : nI 7 < x ↔ nI 8 ≤ x := by
  rw [Int32.lt_iff_toInt_lt, Int32.le_iff_toInt_le, show (nI 7).toInt = 7 from by decide, show (nI 8).toInt = 8 from by decide]
  omega
theorem subm1 (x : Int32) : x + Int32.ofInt (-1) = x - 1 := by
  rw [show Int32.ofInt (-1) = -1 from by decide, Int32.sub_eq_add_neg]
def oldF (u : Mem) : Nat → Nat → Int32
  | 0, _ => -1
  | n + 1, c => if u 6 c = 0 then oldF u n (c + 1) else nI c
def remF (u : Mem) : Nat → Nat → Int32 → Int32
  | 0, _, a => a
  | n + 1, c, a => remF u n (c + 1) (if u 6 c = 0 then a else a + 1)
def cntStep (u : Mem) (x : Int32) (c : Nat) (a : Int32) : Int32 := if sessF x = 0 then a else if u 4 c = x then (if u 5 c = 0 then a + 1 else a) else a
def cntF (u : Mem) (x : Int32) : Nat → Nat → Int32 → Int32
  | 0, _, a => a
  | n + 1, c, a => cntF u x n (c + 1) (cntStep u x c a)
def relF (x : Int32) : Nat → Nat → Mem → Mem
  | 0, _, u => u
  | n + 1, r, u => relF x n (r + 1) (pk u 9 r (if u 9 r = x then -4 else u 9 r))
def cmtF (x : Int32) : Nat → Nat → Mem → Mem
  | 0, _, u => u
  | n + 1, c, u => cmtF x n (c + 1) (pk u 5 c (if u 4 c = x then (if u 5 c = 0 then u 7 0 else u 5 c) else u 5 c))
def mcommit1F (u : Mem) (N : Nat) (x : Int32) : Mem := relF x 8 0 (cmtF x N 0 (pk u 7 0 (u 7 0 + 1)))
def mcommitF (u : Mem) (N : Nat) (x : Int32) : Int32 × Mem := if cntF u x N 0 0 = 0 then (-4, u) else (mcommit1F u N x 7 0, mcommit1F u N x)
def mpopF (u : Mem) (n : Nat) : Mem := pk (pk (pk u 8 (ix (u 1 n)) (u 3 n)) 5 n (-1)) 6 n (b1 0)
def mrbF (x : Int32) : Nat → Mem → Mem
  | 0, u => u
  | n + 1, u => mrbF x n (if u 4 n = x then (if u 5 n = 0 then mpopF u n else u) else u)
def mrollF (u : Mem) (N : Nat) (x : Int32) : Int32 × Mem := if cntF u x N 0 0 = 0 then (-4, u) else (0, relF x 8 0 (mrbF x N u))
def mOld (u : Mem) (N : Nat) : Int32 := if nI 24 ≤ remF u N 0 0 then oldF u N 0 else -1
def mgone (u : Mem) (c g : Nat) : Int32 := if u 5 c ≤ u 10 g then u 10 g else u 5 c
def mfgF (u : Mem) (c : Nat) : Mem :=
  let u1 := pk u 6 c (b1 0)
  pk u1 10 (ix (u1 1 c)) (mgone u1 c (ix (u1 1 c)))
def mchg1F (u : Mem) (old : Int32) : Mem := if old < 0 then u else mfgF u (ix old)
def mchg2F (u : Mem) (N : Nat) (x : Int32) (r : Nat) (v : Int32) : Mem :=
  let u1 := pk u 1 N (nI r)
  let u2 := pk u1 2 N v
  let u3 := pk u2 3 N (u2 8 r)
  let u4 := pk u3 4 N x
  let u5 := pk u4 5 N 0
  let u6 := pk u5 6 N (b1 1)
  let u7 := pk u6 0 0 (u6 0 0 + 1)
  let u8 := pk u7 8 r v
  pk u8 9 r x
def mchangeF (u : Mem) (N : Nat) (x r v : Int32) : Int32 × Mem :=
  if sessF x = 0 then (-1, u) else if rowF r = 0 then (-1, u) else
  if ¬ u 9 (ix r) = -4 ∧ ¬ u 9 (ix r) = x then (-2, u) else
  if nI 512 ≤ u 0 0 ∨ (¬ mOld u N < 0 ∧ u 5 (ix (mOld u N)) = 0) then (-3, u) else
  (0, mchg2F (mchg1F u (mOld u N)) N x (ix r) v)
def valStep (u : Mem) (r s : Int32) (c : Nat) (a : Int32) : Int32 := if u 1 c = r then (if u 5 c ≤ 0 then a else if s < u 5 c then a else u 2 c) else a
def valF (u : Mem) (r s : Int32) : Nat → Nat → Int32 → Int32
  | 0, _, a => a
  | n + 1, c, a => valF u r s n (c + 1) (valStep u r s c a)
def mreadF (u : Mem) (N : Nat) (x r s : Int32) : Int32 :=
  if sessF x = 0 then -1 else if rowF r = 0 then -1 else if s < 0 then -1 else if s ≤ u 7 0 then
    (if u 9 (ix r) = x then u 8 (ix r) else if u 10 (ix r) ≤ s then valF u r s N 0 0 else -2000000000) else -1
def mrawF (u : Mem) (r : Int32) : Int32 := if rowF r = 0 then 0 else u 8 (ix r)
def mholderF (u : Mem) (r : Int32) : Int32 := if rowF r = 0 then -4 else u 9 (ix r)
def moldestF (u : Mem) (r : Int32) : Int32 := if rowF r = 0 then -1 else u 10 (ix r)
def mlockStep (u : Mem) (x : Int32) (r : Nat) (set : Int32) : Int32 := if sessF x = 0 then set else if u 9 r = x then set ||| bitm r else set
def mlockL (u : Mem) (x : Int32) : Nat → Nat → Int32 → Int32
  | 0, _, set => set
  | n + 1, r, set => mlockL u x n (r + 1) (mlockStep u x r set)
def mchsStep (u : Mem) (N : Nat) (s : Int32) (r : Nat) (set : Int32) : Int32 := if s < u 10 r then set else if valF u (nI r) s N 0 0 = valF u (nI r) (u 7 0) N 0 0 then set else set ||| bitm r
def mchsL (u : Mem) (N : Nat) (s : Int32) : Nat → Nat → Int32 → Int32
  | 0, _, set => set
  | n + 1, r, set => mchsL u N s n (r + 1) (mchsStep u N s r set)
def mchsF (u : Mem) (N : Nat) (s : Int32) : Int32 := if s < 0 then 0 else if u 7 0 < s then 0 else mchsL u N s 8 0 0
theorem oldF_ok (u : Mem) : ∀ n c : Nat, okN (n + c) (oldF u n c)
  | 0, _ => Or.inl rfl
  | n + 1, c => by
    unfold oldF
    split
    · have := oldF_ok u n (c + 1)
      rw [show n + 1 + c = n + (c + 1) by omega]
      exact this
    · exact Or.inr ⟨c, by omega, rfl⟩
theorem mOld_ok (u : Mem) (N : Nat) : okN N (mOld u N) := by
  unfold mOld
  split
  · exact oldF_ok u N 0
  · exact Or.inl rfl
end
section
/-! ===== UndoReaderModel: its methods ===== -/
set_option maxHeartbeats 4000000 in
set_option maxRecDepth 100000 in
theorem mM_session {D : va_G} {o : Nat} {q : Nat → Nat} {tt : Nat → ClassId} {u : Mem} {x : Int32} : Mi D (MK tt) o (MW o q tt) yX1_session cX1_session 2 .boolean r0 [.int x] u (fun r u' => r = sessF x ∧ u = u') := by
  refine Mi.start 0 (by decide) (Nat.le_of_ble_eq_true rfl) rfl (List.forall_mem_cons.mpr ⟨rfl, List.forall_mem_cons.mpr ⟨rfl, fun _ h => absurd h List.not_mem_nil⟩⟩) ?_
  intro p l e s m args below meth c A Q C RT
  refine g_iload_n C dX1_session_0 rfl ?_
  refine g_if_lt C 13 dX1_session_1 (by decide) (fun h => ?_) (fun h => ?_)
  · refine g_iconst C (0) dX1_session_13 (by decide) ?_
    exact RT dX1_session_14 rfl (⟨(if_pos h).symm, rfl⟩)
  · refine g_iload_n C dX1_session_4 rfl ?_
    refine g_iconst C (nI 3) dX1_session_5 (by decide) ?_
    refine g_icmp_gt C 13 dX1_session_6 (by decide) (fun h1 => ?_) (fun h1 => ?_)
    · refine g_iconst C (0) dX1_session_13 (by decide) ?_
      exact RT dX1_session_14 rfl (⟨((if_neg h).trans (if_pos ((gt3 x).mp h1))).symm, rfl⟩)
    · refine g_iconst C (1) dX1_session_9 (by decide) ?_
      refine g_goto C 14 dX1_session_10 (by decide) ?_
      exact RT dX1_session_14 rfl (⟨((if_neg h).trans (if_neg (fun z => h1 ((gt3 x).mpr z)))).symm, rfl⟩)
set_option maxHeartbeats 4000000 in
set_option maxRecDepth 100000 in
theorem mM_isRow {D : va_G} {o : Nat} {q : Nat → Nat} {tt : Nat → ClassId} {u : Mem} {x : Int32} : Mi D (MK tt) o (MW o q tt) yX1_isRow cX1_isRow 2 .boolean r0 [.int x] u (fun r u' => r = rowF x ∧ u = u') := by
  refine Mi.start 0 (by decide) (Nat.le_of_ble_eq_true rfl) rfl (List.forall_mem_cons.mpr ⟨rfl, List.forall_mem_cons.mpr ⟨rfl, fun _ h => absurd h List.not_mem_nil⟩⟩) ?_
  intro p l e s m args below meth c A Q C RT
  refine g_iload_n C dX1_isRow_0 rfl ?_
  refine g_if_lt C 14 dX1_isRow_1 (by decide) (fun h => ?_) (fun h => ?_)
  · refine g_iconst C (0) dX1_isRow_14 (by decide) ?_
    exact RT dX1_isRow_15 rfl (⟨(if_pos h).symm, rfl⟩)
  · refine g_iload_n C dX1_isRow_4 rfl ?_
    refine g_bipush C (nI 7) dX1_isRow_5 (by decide) ?_
    refine g_icmp_gt C 14 dX1_isRow_7 (by decide) (fun h1 => ?_) (fun h1 => ?_)
    · refine g_iconst C (0) dX1_isRow_14 (by decide) ?_
      exact RT dX1_isRow_15 rfl (⟨((if_neg h).trans (if_pos ((gt7 x).mp h1))).symm, rfl⟩)
    · refine g_iconst C (1) dX1_isRow_10 (by decide) ?_
      refine g_goto C 15 dX1_isRow_11 (by decide) ?_
      exact RT dX1_isRow_15 rfl (⟨((if_neg h).trans (if_neg (fun z => h1 ((gt7 x).mpr z)))).symm, rfl⟩)
set_option maxHeartbeats 4000000 in
set_option maxRecDepth 100000 in
theorem mM_oldestKept {D : va_G} {o : Nat} {q : Nat → Nat} {tt : Nat → ClassId} {u : Mem} {N : Nat} (hN : u 0 0 = nI N) (hN5 : N ≤ 512) : Mi D (MK tt) o (MW o q tt) yX1_oldestKept cX1_oldestKept 2 .int r0 [] u (fun r u' => r = oldF u N 0 ∧ u = u') := by
  refine Mi.start 1 (by decide) (Nat.le_of_ble_eq_true rfl) rfl (List.forall_mem_cons.mpr ⟨rfl, fun _ h => absurd h List.not_mem_nil⟩) ?_
  intro p l e s m args below meth c A Q C RT
  obtain ⟨T, hT⟩ : ∃ T, T = oldF u N 0 := ⟨_, rfl⟩
  rw [← hT] at RT
  have loop : ∀ (n i : Nat), n + i = N → T = oldF u n i → G p l e r0 s m args below meth c D A 2 0 0 Q (MW o q tt (u)) 2 [some (.ref o), some (.int (nI i))] [] := by
    intro n
    induction n with
    | zero =>
      intro i hi he
      refine g_iload_n C dX1_oldestKept_2 rfl ?_
      refine g_aload_n C dX1_oldestKept_3 rfl ?_
      refine mg_0 C dX1_oldestKept_4 ?_
      rw [hN]
      refine g_icmp_ge C 27 dX1_oldestKept_7 (by decide) (fun h => ?_) (fun h => ?_)
      · refine g_iconst C (-1) dX1_oldestKept_27 (by decide) ?_
        exact RT dX1_oldestKept_28 rfl (⟨he.symm, rfl⟩)
      · exact absurd (nI_le (by omega) (by omega)) h
    | succ n ih =>
      intro i hi he
      have hi5 : i < 512 := by omega
      unfold oldF at he
      refine g_iload_n C dX1_oldestKept_2 rfl ?_
      refine g_aload_n C dX1_oldestKept_3 rfl ?_
      refine mg_0 C dX1_oldestKept_4 ?_
      rw [hN]
      refine g_icmp_ge C 27 dX1_oldestKept_7 (by decide) (fun h => ?_) (fun h => ?_)
      · exact absurd h (nI_ge (by omega) (by omega))
      · refine g_aload_n C dX1_oldestKept_10 rfl ?_
        refine mg_6 C dX1_oldestKept_11 ?_
        refine g_iload_n C dX1_oldestKept_14 rfl ?_
        refine ml_6 C (i) (rfl) (hi5) dX1_oldestKept_15 ?_
        refine g_if_eq C 21 dX1_oldestKept_16 (by decide) (fun h1 => ?_) (fun h1 => ?_)
        · rw [if_pos h1] at he
          refine g_iinc C (nI (i + 1)) dX1_oldestKept_21 rfl (inc1 i) (by decide) ?_
          refine g_goto C 2 dX1_oldestKept_24 (by decide) ?_
          exact ih (i + 1) (by omega) he
        · rw [if_neg h1] at he
          refine g_iload_n C dX1_oldestKept_19 rfl ?_
          exact RT dX1_oldestKept_20 rfl (⟨he.symm, rfl⟩)
  refine g_iconst C (0) dX1_oldestKept_0 (by decide) ?_
  refine g_istore_n C dX1_oldestKept_1 (by decide) ?_
  exact loop N 0 rfl hT
set_option maxHeartbeats 4000000 in
set_option maxRecDepth 100000 in
theorem mM_remembered {D : va_G} {o : Nat} {q : Nat → Nat} {tt : Nat → ClassId} {u : Mem} {N : Nat} (hN : u 0 0 = nI N) (hN5 : N ≤ 512) : Mi D (MK tt) o (MW o q tt) yX1_remembered cX1_remembered 3 .int r0 [] u (fun r u' => r = remF u N 0 0 ∧ u = u') := by
  refine Mi.start 2 (by decide) (Nat.le_of_ble_eq_true rfl) rfl (List.forall_mem_cons.mpr ⟨rfl, fun _ h => absurd h List.not_mem_nil⟩) ?_
  intro p l e s m args below meth c A Q C RT
  obtain ⟨T, hT⟩ : ∃ T, T = remF u N 0 0 := ⟨_, rfl⟩
  rw [← hT] at RT
  have loop : ∀ (n i : Nat) (a : Int32), n + i = N → T = remF u n i a → G p l e r0 s m args below meth c D A 3 0 0 Q (MW o q tt (u)) 4 [some (.ref o), some (.int (a)), some (.int (nI i))] [] := by
    intro n
    induction n with
    | zero =>
      intro i a hi he
      refine g_iload_n C dX1_remembered_4 rfl ?_
      refine g_aload_n C dX1_remembered_5 rfl ?_
      refine mg_0 C dX1_remembered_6 ?_
      rw [hN]
      refine g_icmp_ge C 35 dX1_remembered_9 (by decide) (fun h => ?_) (fun h => ?_)
      · refine g_iload_n C dX1_remembered_35 rfl ?_
        exact RT dX1_remembered_36 rfl (⟨he.symm, rfl⟩)
      · exact absurd (nI_le (by omega) (by omega)) h
    | succ n ih =>
      intro i a hi he
      have hi5 : i < 512 := by omega
      unfold remF at he
      refine g_iload_n C dX1_remembered_4 rfl ?_
      refine g_aload_n C dX1_remembered_5 rfl ?_
      refine mg_0 C dX1_remembered_6 ?_
      rw [hN]
      refine g_icmp_ge C 35 dX1_remembered_9 (by decide) (fun h => ?_) (fun h => ?_)
      · exact absurd h (nI_ge (by omega) (by omega))
      · refine g_aload_n C dX1_remembered_12 rfl ?_
        refine mg_6 C dX1_remembered_13 ?_
        refine g_iload_n C dX1_remembered_16 rfl ?_
        refine ml_6 C (i) (rfl) (hi5) dX1_remembered_17 ?_
        refine g_if_eq C 27 dX1_remembered_18 (by decide) (fun h1 => ?_) (fun h1 => ?_)
        · rw [if_pos h1] at he
          refine g_iload_n C dX1_remembered_27 rfl ?_
          refine g_istore_n C dX1_remembered_28 (by decide) ?_
          refine g_iinc C (nI (i + 1)) dX1_remembered_29 rfl (inc1 i) (by decide) ?_
          refine g_goto C 4 dX1_remembered_32 (by decide) ?_
          exact ih (i + 1) _ (by omega) he
        · rw [if_neg h1] at he
          refine g_iload_n C dX1_remembered_21 rfl ?_
          refine g_iconst C (1) dX1_remembered_22 (by decide) ?_
          refine g_iadd C dX1_remembered_23 ?_
          refine g_goto C 28 dX1_remembered_24 (by decide) ?_
          refine g_istore_n C dX1_remembered_28 (by decide) ?_
          refine g_iinc C (nI (i + 1)) dX1_remembered_29 rfl (inc1 i) (by decide) ?_
          refine g_goto C 4 dX1_remembered_32 (by decide) ?_
          exact ih (i + 1) _ (by omega) he
  refine g_iconst C (0) dX1_remembered_0 (by decide) ?_
  refine g_istore_n C dX1_remembered_1 (by decide) ?_
  refine g_iconst C (0) dX1_remembered_2 (by decide) ?_
  refine g_istore_n C dX1_remembered_3 (by decide) ?_
  exact loop N 0 0 rfl hT
set_option maxHeartbeats 4000000 in
set_option maxRecDepth 100000 in
theorem mM_changes {D : va_G} {o : Nat} {q : Nat → Nat} {tt : Nat → ClassId} {u : Mem} {N : Nat} (hN : u 0 0 = nI N) (hN5 : N ≤ 512) {x : Int32} : Mi D (MK tt) o (MW o q tt) yX1_changes cX1_changes 4 .int r1 [.int x] u (fun r u' => r = cntF u x N 0 0 ∧ u = u') := by
  refine Mi.start 2 (by decide) (Nat.le_of_ble_eq_true rfl) rfl (List.forall_mem_cons.mpr ⟨rfl, List.forall_mem_cons.mpr ⟨rfl, fun _ h => absurd h List.not_mem_nil⟩⟩) ?_
  intro p l e s m args below meth c A Q C RT
  obtain ⟨T, hT⟩ : ∃ T, T = cntF u x N 0 0 := ⟨_, rfl⟩
  rw [← hT] at RT
  have loop : ∀ (n i : Nat) (a : Int32), n + i = N → T = cntF u x n i a → G p l e r1 s m args below meth c D A 4 0 0 Q (MW o q tt (u)) 4 [some (.ref o), some (.int (x)), some (.int (a)), some (.int (nI i))] [] := by
    intro n
    induction n with
    | zero =>
      intro i a hi he
      refine g_iload_n C dX1_changes_4 rfl ?_
      refine g_aload_n C dX1_changes_5 rfl ?_
      refine mg_0 C dX1_changes_6 ?_
      rw [hN]
      refine g_icmp_ge C 53 dX1_changes_9 (by decide) (fun h => ?_) (fun h => ?_)
      · refine g_iload_n C dX1_changes_53 rfl ?_
        exact RT dX1_changes_54 rfl (⟨he.symm, rfl⟩)
      · exact absurd (nI_le (by omega) (by omega)) h
    | succ n ih =>
      intro i a hi he
      have hi5 : i < 512 := by omega
      unfold cntF at he
      have J46 : ∀ a' : Int32, a' = cntStep u x i a → G p l e r1 s m args below meth c D A 4 0 0 Q (MW o q tt (u)) 46 [some (.ref o), some (.int (x)), some (.int (a)), some (.int (nI i))] [.int (a')] := by
        intro a' ha
        rw [← ha] at he
        refine g_istore_n C dX1_changes_46 (by decide) ?_
        refine g_iinc C (nI (i + 1)) dX1_changes_47 rfl (inc1 i) (by decide) ?_
        refine g_goto C 4 dX1_changes_50 (by decide) ?_
        exact ih (i + 1) _ (by omega) he
      refine g_iload_n C dX1_changes_4 rfl ?_
      refine g_aload_n C dX1_changes_5 rfl ?_
      refine mg_0 C dX1_changes_6 ?_
      rw [hN]
      refine g_icmp_ge C 53 dX1_changes_9 (by decide) (fun h => ?_) (fun h => ?_)
      · exact absurd h (nI_ge (by omega) (by omega))
      · refine g_aload_n C dX1_changes_12 rfl ?_
        refine g_iload_n C dX1_changes_13 rfl ?_
        refine g_calli C (wf := MW o q tt) (mM_session (x := x)) rfl (MW_obj _ _ _ _) (cwV 1 C.2.2.2.2.1 (lw_V q218 q220 qs9 q16 q221) rfl rfl rfl (by decide +kernel) ⟨by decide, by decide⟩) dX1_changes_14 (Nat.le_of_ble_eq_true rfl) ⟨by decide, by decide⟩ rfl (fun y u' hy => ?_)
        obtain ⟨rfl, rfl⟩ := hy
        refine g_if_eq C 45 dX1_changes_17 (by decide) (fun h1 => ?_) (fun h1 => ?_)
        · refine g_iload_n C dX1_changes_45 rfl ?_
          exact J46 a (if_pos h1).symm
        · refine g_aload_n C dX1_changes_20 rfl ?_
          refine mg_4 C dX1_changes_21 ?_
          refine g_iload_n C dX1_changes_24 rfl ?_
          refine ml_4 C (i) (rfl) (hi5) dX1_changes_25 ?_
          refine g_iload_n C dX1_changes_26 rfl ?_
          refine g_icmp_ne C 45 dX1_changes_27 (by decide) (fun h2 => ?_) (fun h2 => ?_)
          · refine g_iload_n C dX1_changes_45 rfl ?_
            exact J46 a ((if_neg h1).trans (if_neg h2)).symm
          · refine g_aload_n C dX1_changes_30 rfl ?_
            refine mg_5 C dX1_changes_31 ?_
            refine g_iload_n C dX1_changes_34 rfl ?_
            refine ml_5 C (i) (rfl) (hi5) dX1_changes_35 ?_
            refine g_if_ne C 45 dX1_changes_36 (by decide) (fun h3 => ?_) (fun h3 => ?_)
            · refine g_iload_n C dX1_changes_45 rfl ?_
              exact J46 a ((if_neg h1).trans ((if_pos h2).trans (if_neg h3))).symm
            · refine g_iload_n C dX1_changes_39 rfl ?_
              refine g_iconst C (1) dX1_changes_40 (by decide) ?_
              refine g_iadd C dX1_changes_41 ?_
              refine g_goto C 46 dX1_changes_42 (by decide) ?_
              exact J46 _ ((if_neg h1).trans ((if_pos h2).trans (if_pos h3))).symm
  refine g_iconst C (0) dX1_changes_0 (by decide) ?_
  refine g_istore_n C dX1_changes_1 (by decide) ?_
  refine g_iconst C (0) dX1_changes_2 (by decide) ?_
  refine g_istore_n C dX1_changes_3 (by decide) ?_
  exact loop N 0 0 rfl hT
set_option maxHeartbeats 4000000 in
set_option maxRecDepth 100000 in
theorem mM_release {D : va_G} {o : Nat} {q : Nat → Nat} {tt : Nat → ClassId} {u : Mem} {x : Int32} : Mv D (MK tt) o (MW o q tt) yX1_release cX1_release 3 r0 [.int x] u (fun u' => u' = relF x 8 0 u) := by
  refine Mv.start 1 (by decide) (Nat.le_of_ble_eq_true rfl) rfl (List.forall_mem_cons.mpr ⟨rfl, List.forall_mem_cons.mpr ⟨rfl, fun _ h => absurd h List.not_mem_nil⟩⟩) ?_
  intro p l e s m args below meth c A Q C RT
  obtain ⟨T, hT⟩ : ∃ T, T = relF x 8 0 u := ⟨_, rfl⟩
  rw [← hT] at RT
  have loop : ∀ (n r : Nat) (u3 : Mem), n + r = 8 → T = relF x n r u3 → G p l e r0 s m args below meth c D A 3 0 0 Q (MW o q tt (u3)) 2 [some (.ref o), some (.int (x)), some (.int (nI r))] [] := by
    intro n
    induction n with
    | zero =>
      intro r u3 hr he
      refine g_iload_n C dX1_release_2 rfl ?_
      refine g_bipush C (nI 8) dX1_release_3 (by decide) ?_
      refine g_icmp_ge C 41 dX1_release_5 (by decide) (fun h => ?_) (fun h => ?_)
      · exact RT dX1_release_41 (he.symm)
      · exact absurd (nI_le (by omega) (by omega)) h
    | succ n ih =>
      intro r u3 hr he
      have hr8 : r < 8 := by omega
      unfold relF at he
      refine g_iload_n C dX1_release_2 rfl ?_
      refine g_bipush C (nI 8) dX1_release_3 (by decide) ?_
      refine g_icmp_ge C 41 dX1_release_5 (by decide) (fun h => ?_) (fun h => ?_)
      · exact absurd h (nI_ge (by omega) (by omega))
      · refine g_aload_n C dX1_release_8 rfl ?_
        refine mg_9 C dX1_release_9 ?_
        refine g_iload_n C dX1_release_12 rfl ?_
        refine g_aload_n C dX1_release_13 rfl ?_
        refine mg_9 C dX1_release_14 ?_
        refine g_iload_n C dX1_release_17 rfl ?_
        refine ml_9 C (r) (rfl) (hr8) dX1_release_18 ?_
        refine g_iload_n C dX1_release_19 rfl ?_
        refine g_icmp_ne C 28 dX1_release_20 (by decide) (fun h1 => ?_) (fun h1 => ?_)
        · rw [if_neg h1] at he
          refine g_aload_n C dX1_release_28 rfl ?_
          refine mg_9 C dX1_release_29 ?_
          refine g_iload_n C dX1_release_32 rfl ?_
          refine ml_9 C (r) (rfl) (hr8) dX1_release_33 ?_
          refine ms_9 C (r) (rfl) (hr8) dX1_release_34 ?_
          refine g_iinc C (nI (r + 1)) dX1_release_35 rfl (inc1 r) (by decide) ?_
          refine g_goto C 2 dX1_release_38 (by decide) ?_
          exact ih (r + 1) _ (by omega) he
        · rw [if_pos h1] at he
          refine g_bipush C (-4) dX1_release_23 (by decide) ?_
          refine g_goto C 34 dX1_release_25 (by decide) ?_
          refine ms_9 C (r) (rfl) (hr8) dX1_release_34 ?_
          refine g_iinc C (nI (r + 1)) dX1_release_35 rfl (inc1 r) (by decide) ?_
          refine g_goto C 2 dX1_release_38 (by decide) ?_
          exact ih (r + 1) _ (by omega) he
  refine g_iconst C (0) dX1_release_0 (by decide) ?_
  refine g_istore_n C dX1_release_1 (by decide) ?_
  exact loop 8 0 u rfl hT
set_option maxHeartbeats 4000000 in
set_option maxRecDepth 100000 in
theorem mM_commit {D : va_G} {o : Nat} {q : Nat → Nat} {tt : Nat → ClassId} {u : Mem} {N : Nat} (hN : u 0 0 = nI N) (hN5 : N ≤ 512) {x : Int32} : Mi D (MK tt) o (MW o q tt) yX1_commit cX1_commit 3 .int r2 [.int x] u (fun r u' => r = (mcommitF u N x).1 ∧ u' = (mcommitF u N x).2) := by
  refine Mi.start 1 (by decide) (Nat.le_of_ble_eq_true rfl) rfl (List.forall_mem_cons.mpr ⟨rfl, List.forall_mem_cons.mpr ⟨rfl, fun _ h => absurd h List.not_mem_nil⟩⟩) ?_
  intro p l e s m args below meth c A Q C RT
  refine g_aload_n C dX1_commit_0 rfl ?_
  refine g_iload_n C dX1_commit_1 rfl ?_
  refine g_calli C (wf := MW o q tt) (mM_changes hN hN5 (x := x)) rfl (MW_obj _ _ _ _) (cwV 1 C.2.2.2.2.1 (lw_V q238 q239 q240 q16 q241) rfl rfl rfl (by decide +kernel) ⟨by decide, by decide⟩) dX1_commit_2 (Nat.le_of_ble_eq_true rfl) ⟨by decide, by decide⟩ rfl (fun y u' hy => ?_)
  obtain ⟨rfl, rfl⟩ := hy
  refine g_if_ne C 11 dX1_commit_5 (by decide) (fun h => ?_) (fun h => ?_)
  · have hE : mcommitF u N x = (mcommit1F u N x 7 0, mcommit1F u N x) := if_neg h
    obtain ⟨T, hT⟩ : ∃ T, T = mcommit1F u N x := ⟨_, rfl⟩
    rw [← hT] at hE
    rw [hE] at RT
    have loop : ∀ (n i : Nat) (u3 : Mem), n + i = N → u3 0 0 = nI N → T = relF x 8 0 (cmtF x n i u3) → G p l e r2 s m args below meth c D A 3 0 0 Q (MW o q tt (u3)) 23 [some (.ref o), some (.int (x)), some (.int (nI i))] [] := by
      intro n
      induction n with
      | zero =>
        intro i u3 hi h0 he
        refine g_iload_n C dX1_commit_23 rfl ?_
        refine g_aload_n C dX1_commit_24 rfl ?_
        refine mg_0 C dX1_commit_25 ?_
        rw [h0]
        refine g_icmp_ge C 75 dX1_commit_28 (by decide) (fun h1 => ?_) (fun h1 => ?_)
        · refine g_aload_n C dX1_commit_75 rfl ?_
          refine g_iload_n C dX1_commit_76 rfl ?_
          refine g_callv C (wf := MW o q tt) (mM_release (x := x)) rfl (MW_obj _ _ _ _) (cwV 1 C.2.2.2.2.1 (lw_V q242 q244 qs12 q16 q245) rfl rfl rfl (by decide +kernel) ⟨by decide, by decide⟩) dX1_commit_77 (Nat.le_of_ble_eq_true rfl) ⟨by decide, by decide⟩ rfl (fun u' hu => ?_)
          subst hu
          rw [show cmtF x 0 i u3 = u3 from rfl] at he
          rw [← he]
          refine g_aload_n C dX1_commit_80 rfl ?_
          refine mg_7 C dX1_commit_81 ?_
          exact RT dX1_commit_84 rfl (⟨rfl, rfl⟩)
        · exact absurd (nI_le (by omega) (by omega)) h1
      | succ n ih =>
        intro i u3 hi h0 he
        have hi5 : i < 512 := by omega
        unfold cmtF at he
        refine g_iload_n C dX1_commit_23 rfl ?_
        refine g_aload_n C dX1_commit_24 rfl ?_
        refine mg_0 C dX1_commit_25 ?_
        rw [h0]
        refine g_icmp_ge C 75 dX1_commit_28 (by decide) (fun h1 => ?_) (fun h1 => ?_)
        · exact absurd h1 (nI_ge (by omega) (by omega))
        · refine g_aload_n C dX1_commit_31 rfl ?_
          refine mg_5 C dX1_commit_32 ?_
          refine g_iload_n C dX1_commit_35 rfl ?_
          refine g_aload_n C dX1_commit_36 rfl ?_
          refine mg_4 C dX1_commit_37 ?_
          refine g_iload_n C dX1_commit_40 rfl ?_
          refine ml_4 C (i) (rfl) (hi5) dX1_commit_41 ?_
          refine g_iload_n C dX1_commit_42 rfl ?_
          refine g_icmp_ne C 62 dX1_commit_43 (by decide) (fun h2 => ?_) (fun h2 => ?_)
          · rw [if_neg h2] at he
            refine g_aload_n C dX1_commit_62 rfl ?_
            refine mg_5 C dX1_commit_63 ?_
            refine g_iload_n C dX1_commit_66 rfl ?_
            refine ml_5 C (i) (rfl) (hi5) dX1_commit_67 ?_
            refine ms_5 C (i) (rfl) (hi5) dX1_commit_68 ?_
            refine g_iinc C (nI (i + 1)) dX1_commit_69 rfl (inc1 i) (by decide) ?_
            refine g_goto C 23 dX1_commit_72 (by decide) ?_
            exact ih (i + 1) _ (by omega) h0 he
          · rw [if_pos h2] at he
            refine g_aload_n C dX1_commit_46 rfl ?_
            refine mg_5 C dX1_commit_47 ?_
            refine g_iload_n C dX1_commit_50 rfl ?_
            refine ml_5 C (i) (rfl) (hi5) dX1_commit_51 ?_
            refine g_if_ne C 62 dX1_commit_52 (by decide) (fun h3 => ?_) (fun h3 => ?_)
            · rw [if_neg h3] at he
              refine g_aload_n C dX1_commit_62 rfl ?_
              refine mg_5 C dX1_commit_63 ?_
              refine g_iload_n C dX1_commit_66 rfl ?_
              refine ml_5 C (i) (rfl) (hi5) dX1_commit_67 ?_
              refine ms_5 C (i) (rfl) (hi5) dX1_commit_68 ?_
              refine g_iinc C (nI (i + 1)) dX1_commit_69 rfl (inc1 i) (by decide) ?_
              refine g_goto C 23 dX1_commit_72 (by decide) ?_
              exact ih (i + 1) _ (by omega) h0 he
            · rw [if_pos h3] at he
              refine g_aload_n C dX1_commit_55 rfl ?_
              refine mg_7 C dX1_commit_56 ?_
              refine g_goto C 68 dX1_commit_59 (by decide) ?_
              refine ms_5 C (i) (rfl) (hi5) dX1_commit_68 ?_
              refine g_iinc C (nI (i + 1)) dX1_commit_69 rfl (inc1 i) (by decide) ?_
              refine g_goto C 23 dX1_commit_72 (by decide) ?_
              exact ih (i + 1) _ (by omega) h0 he
    refine g_aload_n C dX1_commit_11 rfl ?_
    refine g_dup C dX1_commit_12 rfl ?_
    refine mg_7 C dX1_commit_13 ?_
    refine g_iconst C (1) dX1_commit_16 (by decide) ?_
    refine g_iadd C dX1_commit_17 ?_
    refine mp_7 C dX1_commit_18 ?_
    refine g_iconst C (0) dX1_commit_21 (by decide) ?_
    refine g_istore_n C dX1_commit_22 (by decide) ?_
    exact loop N 0 _ rfl hN hT
  · have hE : mcommitF u N x = (-4, u) := if_pos h
    refine g_bipush C (-4) dX1_commit_8 (by decide) ?_
    exact RT dX1_commit_10 rfl (⟨by rw [hE], by rw [hE]⟩)
set_option maxHeartbeats 4000000 in
set_option maxRecDepth 100000 in
theorem mM_rollback {D : va_G} {o : Nat} {q : Nat → Nat} {tt : Nat → ClassId} {u : Mem} {N : Nat} (hN : u 0 0 = nI N) (hN5 : N ≤ 512) (W : ∀ i, okP 8 (u 1 i)) {x : Int32} : Mi D (MK tt) o (MW o q tt) yX1_rollback cX1_rollback 3 .int r2 [.int x] u (fun r u' => r = (mrollF u N x).1 ∧ u' = (mrollF u N x).2) := by
  refine Mi.start 1 (by decide) (Nat.le_of_ble_eq_true rfl) rfl (List.forall_mem_cons.mpr ⟨rfl, List.forall_mem_cons.mpr ⟨rfl, fun _ h => absurd h List.not_mem_nil⟩⟩) ?_
  intro p l e s m args below meth c A Q C RT
  refine g_aload_n C dX1_rollback_0 rfl ?_
  refine g_iload_n C dX1_rollback_1 rfl ?_
  refine g_calli C (wf := MW o q tt) (mM_changes hN hN5 (x := x)) rfl (MW_obj _ _ _ _) (cwV 1 C.2.2.2.2.1 (lw_V q238 q239 q240 q16 q241) rfl rfl rfl (by decide +kernel) ⟨by decide, by decide⟩) dX1_rollback_2 (Nat.le_of_ble_eq_true rfl) ⟨by decide, by decide⟩ rfl (fun y u' hy => ?_)
  obtain ⟨rfl, rfl⟩ := hy
  refine g_if_ne C 11 dX1_rollback_5 (by decide) (fun h => ?_) (fun h => ?_)
  · have hE : mrollF u N x = (0, relF x 8 0 (mrbF x N u)) := if_neg h
    obtain ⟨T, hT⟩ : ∃ T, T = relF x 8 0 (mrbF x N u) := ⟨_, rfl⟩
    rw [← hT] at hE
    rw [hE] at RT
    have loop : ∀ (n : Nat) (u3 : Mem), n ≤ 512 → (∀ i, okP 8 (u3 1 i)) → T = relF x 8 0 (mrbF x n u3) → G p l e r2 s m args below meth c D A 3 0 0 Q (MW o q tt (u3)) 18 [some (.ref o), some (.int (x)), some (.int (nI n - 1))] [] := by
      intro n
      induction n with
      | zero =>
        intro u3 hn W3 he
        refine g_iload_n C dX1_rollback_18 rfl ?_
        refine g_if_lt C 78 dX1_rollback_19 (by decide) (fun h1 => ?_) (fun h1 => ?_)
        · refine g_aload_n C dX1_rollback_78 rfl ?_
          refine g_iload_n C dX1_rollback_79 rfl ?_
          refine g_callv C (wf := MW o q tt) (mM_release (x := x)) rfl (MW_obj _ _ _ _) (cwV 1 C.2.2.2.2.1 (lw_V q242 q244 qs12 q16 q245) rfl rfl rfl (by decide +kernel) ⟨by decide, by decide⟩) dX1_rollback_80 (Nat.le_of_ble_eq_true rfl) ⟨by decide, by decide⟩ rfl (fun u' hu => ?_)
          subst hu
          rw [show mrbF x 0 u3 = u3 from rfl] at he
          rw [← he]
          refine g_iconst C (0) dX1_rollback_83 (by decide) ?_
          exact RT dX1_rollback_84 rfl (⟨rfl, rfl⟩)
        · exact absurd (by decide) h1
      | succ n ih =>
        intro u3 hn W3 he
        have hn5 : n < 512 := by omega
        have hr := okP.ix (W3 n) (by decide)
        unfold mrbF at he
        rw [nI_pred]
        refine g_iload_n C dX1_rollback_18 rfl ?_
        refine g_if_lt C 78 dX1_rollback_19 (by decide) (fun h1 => ?_) (fun h1 => ?_)
        · exact absurd h1 (nI_pos (by omega))
        · refine g_aload_n C dX1_rollback_22 rfl ?_
          refine mg_4 C dX1_rollback_23 ?_
          refine g_iload_n C dX1_rollback_26 rfl ?_
          refine ml_4 C (n) (rfl) (hn5) dX1_rollback_27 ?_
          refine g_iload_n C dX1_rollback_28 rfl ?_
          refine g_icmp_ne C 72 dX1_rollback_29 (by decide) (fun h2 => ?_) (fun h2 => ?_)
          · rw [if_neg h2] at he
            refine g_iinc C (nI n - 1) dX1_rollback_72 rfl (subm1 _) (by decide) ?_
            refine g_goto C 18 dX1_rollback_75 (by decide) ?_
            exact ih _ (by omega) W3 he
          · rw [if_pos h2] at he
            refine g_aload_n C dX1_rollback_32 rfl ?_
            refine mg_5 C dX1_rollback_33 ?_
            refine g_iload_n C dX1_rollback_36 rfl ?_
            refine ml_5 C (n) (rfl) (hn5) dX1_rollback_37 ?_
            refine g_if_ne C 72 dX1_rollback_38 (by decide) (fun h3 => ?_) (fun h3 => ?_)
            · rw [if_neg h3] at he
              refine g_iinc C (nI n - 1) dX1_rollback_72 rfl (subm1 _) (by decide) ?_
              refine g_goto C 18 dX1_rollback_75 (by decide) ?_
              exact ih _ (by omega) W3 he
            · rw [if_pos h3] at he
              refine g_aload_n C dX1_rollback_41 rfl ?_
              refine mg_8 C dX1_rollback_42 ?_
              refine g_aload_n C dX1_rollback_45 rfl ?_
              refine mg_1 C dX1_rollback_46 ?_
              refine g_iload_n C dX1_rollback_49 rfl ?_
              refine ml_1 C (n) (rfl) (hn5) dX1_rollback_50 ?_
              refine g_aload_n C dX1_rollback_51 rfl ?_
              refine mg_3 C dX1_rollback_52 ?_
              refine g_iload_n C dX1_rollback_55 rfl ?_
              refine ml_3 C (n) (rfl) (hn5) dX1_rollback_56 ?_
              refine ms_8 C (ix (u3 1 n)) (hr.1) (hr.2) dX1_rollback_57 ?_
              refine g_aload_n C dX1_rollback_58 rfl ?_
              refine mg_5 C dX1_rollback_59 ?_
              refine g_iload_n C dX1_rollback_62 rfl ?_
              refine g_iconst C (-1) dX1_rollback_63 (by decide) ?_
              refine ms_5 C (n) (rfl) (hn5) dX1_rollback_64 ?_
              refine g_aload_n C dX1_rollback_65 rfl ?_
              refine mg_6 C dX1_rollback_66 ?_
              refine g_iload_n C dX1_rollback_69 rfl ?_
              refine g_iconst C (0) dX1_rollback_70 (by decide) ?_
              refine ms_6 C (n) (rfl) (hn5) dX1_rollback_71 ?_
              refine g_iinc C (nI n - 1) dX1_rollback_72 rfl (subm1 _) (by decide) ?_
              refine g_goto C 18 dX1_rollback_75 (by decide) ?_
              exact ih _ (by omega) W3 he
    refine g_aload_n C dX1_rollback_11 rfl ?_
    refine mg_0 C dX1_rollback_12 ?_
    rw [hN]
    refine g_iconst C (1) dX1_rollback_15 (by decide) ?_
    refine g_isub C dX1_rollback_16 ?_
    refine g_istore_n C dX1_rollback_17 (by decide) ?_
    exact loop N u hN5 W hT
  · have hE : mrollF u N x = (-4, u) := if_pos h
    refine g_bipush C (-4) dX1_rollback_8 (by decide) ?_
    exact RT dX1_rollback_10 rfl (⟨by rw [hE], by rw [hE]⟩)
set_option maxHeartbeats 4000000 in
set_option maxRecDepth 100000 in
theorem mM_clock {D : va_G} {o : Nat} {q : Nat → Nat} {tt : Nat → ClassId} {u : Mem} : Mi D (MK tt) o (MW o q tt) yX1_clock cX1_clock 1 .int r0 [] u (fun r u' => r = u 7 0 ∧ u = u') := by
  refine Mi.start 0 (by decide) (Nat.le_of_ble_eq_true rfl) rfl (List.forall_mem_cons.mpr ⟨rfl, fun _ h => absurd h List.not_mem_nil⟩) ?_
  intro p l e s m args below meth c A Q C RT
  refine g_aload_n C dX1_clock_0 rfl ?_
  refine mg_7 C dX1_clock_1 ?_
  exact RT dX1_clock_4 rfl (⟨rfl, rfl⟩)
set_option maxHeartbeats 4000000 in
set_option maxRecDepth 100000 in
theorem mM_valueAt {D : va_G} {o : Nat} {q : Nat → Nat} {tt : Nat → ClassId} {u : Mem} {N : Nat} (hN : u 0 0 = nI N) (hN5 : N ≤ 512) {r t : Int32} : Mi D (MK tt) o (MW o q tt) yX1_valueAt cX1_valueAt 5 .int r0 [.int r, .int t] u (fun y u' => y = valF u r t N 0 0 ∧ u = u') := by
  refine Mi.start 2 (by decide) (Nat.le_of_ble_eq_true rfl) rfl (List.forall_mem_cons.mpr ⟨rfl, List.forall_mem_cons.mpr ⟨rfl, List.forall_mem_cons.mpr ⟨rfl, fun _ h => absurd h List.not_mem_nil⟩⟩⟩) ?_
  intro p l e s m args below meth c A Q C RT
  obtain ⟨T, hT⟩ : ∃ T, T = valF u r t N 0 0 := ⟨_, rfl⟩
  rw [← hT] at RT
  have loop : ∀ (n i : Nat) (a : Int32), n + i = N → T = valF u r t n i a → G p l e r0 s m args below meth c D A 5 0 0 Q (MW o q tt (u)) 5 [some (.ref o), some (.int (r)), some (.int (t)), some (.int (a)), some (.int (nI i))] [] := by
    intro n
    induction n with
    | zero =>
      intro i a hi he
      refine g_iload C dX1_valueAt_5 rfl ?_
      refine g_aload_n C dX1_valueAt_7 rfl ?_
      refine mg_0 C dX1_valueAt_8 ?_
      rw [hN]
      refine g_icmp_ge C 64 dX1_valueAt_11 (by decide) (fun h => ?_) (fun h => ?_)
      · refine g_iload_n C dX1_valueAt_64 rfl ?_
        exact RT dX1_valueAt_65 rfl (⟨he.symm, rfl⟩)
      · exact absurd (nI_le (by omega) (by omega)) h
    | succ n ih =>
      intro i a hi he
      have hi5 : i < 512 := by omega
      unfold valF at he
      have J57 : ∀ a' : Int32, a' = valStep u r t i a → G p l e r0 s m args below meth c D A 5 0 0 Q (MW o q tt (u)) 57 [some (.ref o), some (.int (r)), some (.int (t)), some (.int (a)), some (.int (nI i))] [.int (a')] := by
        intro a' ha
        rw [← ha] at he
        refine g_istore_n C dX1_valueAt_57 (by decide) ?_
        refine g_iinc C (nI (i + 1)) dX1_valueAt_58 rfl (inc1 i) (by decide) ?_
        refine g_goto C 5 dX1_valueAt_61 (by decide) ?_
        exact ih (i + 1) _ (by omega) he
      refine g_iload C dX1_valueAt_5 rfl ?_
      refine g_aload_n C dX1_valueAt_7 rfl ?_
      refine mg_0 C dX1_valueAt_8 ?_
      rw [hN]
      refine g_icmp_ge C 64 dX1_valueAt_11 (by decide) (fun h => ?_) (fun h => ?_)
      · exact absurd h (nI_ge (by omega) (by omega))
      · refine g_aload_n C dX1_valueAt_14 rfl ?_
        refine mg_1 C dX1_valueAt_15 ?_
        refine g_iload C dX1_valueAt_18 rfl ?_
        refine ml_1 C (i) (rfl) (hi5) dX1_valueAt_20 ?_
        refine g_iload_n C dX1_valueAt_21 rfl ?_
        refine g_icmp_ne C 56 dX1_valueAt_22 (by decide) (fun h1 => ?_) (fun h1 => ?_)
        · refine g_iload_n C dX1_valueAt_56 rfl ?_
          exact J57 a (if_neg h1).symm
        · refine g_aload_n C dX1_valueAt_25 rfl ?_
          refine mg_5 C dX1_valueAt_26 ?_
          refine g_iload C dX1_valueAt_29 rfl ?_
          refine ml_5 C (i) (rfl) (hi5) dX1_valueAt_31 ?_
          refine g_if_le C 56 dX1_valueAt_32 (by decide) (fun h2 => ?_) (fun h2 => ?_)
          · refine g_iload_n C dX1_valueAt_56 rfl ?_
            exact J57 a ((if_pos h1).trans (if_pos h2)).symm
          · refine g_aload_n C dX1_valueAt_35 rfl ?_
            refine mg_5 C dX1_valueAt_36 ?_
            refine g_iload C dX1_valueAt_39 rfl ?_
            refine ml_5 C (i) (rfl) (hi5) dX1_valueAt_41 ?_
            refine g_iload_n C dX1_valueAt_42 rfl ?_
            refine g_icmp_gt C 56 dX1_valueAt_43 (by decide) (fun h3 => ?_) (fun h3 => ?_)
            · refine g_iload_n C dX1_valueAt_56 rfl ?_
              exact J57 a ((if_pos h1).trans ((if_neg h2).trans (if_pos h3))).symm
            · refine g_aload_n C dX1_valueAt_46 rfl ?_
              refine mg_2 C dX1_valueAt_47 ?_
              refine g_iload C dX1_valueAt_50 rfl ?_
              refine ml_2 C (i) (rfl) (hi5) dX1_valueAt_52 ?_
              refine g_goto C 57 dX1_valueAt_53 (by decide) ?_
              exact J57 _ ((if_pos h1).trans ((if_neg h2).trans (if_neg h3))).symm
  refine g_iconst C (0) dX1_valueAt_0 (by decide) ?_
  refine g_istore_n C dX1_valueAt_1 (by decide) ?_
  refine g_iconst C (0) dX1_valueAt_2 (by decide) ?_
  refine g_istore C dX1_valueAt_3 (by decide) ?_
  exact loop N 0 0 rfl hT
end
section
/-! ===== UndoReaderModel: change, read and the other answers ===== -/
set_option maxHeartbeats 4000000 in
set_option maxRecDepth 100000 in
theorem mM_change {D : va_G} {o : Nat} {q : Nat → Nat} {tt : Nat → ClassId} {u : Mem} {N : Nat} (hN : u 0 0 = nI N) (hN5 : N ≤ 512) (W : ∀ i, okP 8 (u 1 i)) {x r v : Int32} : Mi D (MK tt) o (MW o q tt) yX1_change cX1_change 6 .int r1 [.int x, .int r, .int v] u (fun y u' => y = (mchangeF u N x r v).1 ∧ u' = (mchangeF u N x r v).2) := by
  refine Mi.start 2 (by decide) (Nat.le_of_ble_eq_true rfl) rfl (List.forall_mem_cons.mpr ⟨rfl, List.forall_mem_cons.mpr ⟨rfl, List.forall_mem_cons.mpr ⟨rfl, List.forall_mem_cons.mpr ⟨rfl, fun _ h => absurd h List.not_mem_nil⟩⟩⟩⟩) ?_
  intro p l e s m args below meth c A Q C RT
  refine g_aload_n C dX1_change_0 rfl ?_
  refine g_iload_n C dX1_change_1 rfl ?_
  refine g_calli C (wf := MW o q tt) (mM_session (x := x)) rfl (MW_obj _ _ _ _) (cwV 1 C.2.2.2.2.1 (lw_V q218 q220 qs9 q16 q221) rfl rfl rfl (by decide +kernel) ⟨by decide, by decide⟩) dX1_change_2 (Nat.le_of_ble_eq_true rfl) ⟨by decide, by decide⟩ rfl (fun y u' hy => ?_)
  obtain ⟨rfl, rfl⟩ := hy
  refine g_if_eq C 16 dX1_change_5 (by decide) (fun h => ?_) (fun h => ?_)
  · have he : mchangeF u N x r v = (-1, u) := if_pos h
    refine g_iconst C (-1) dX1_change_16 (by decide) ?_
    exact RT dX1_change_17 rfl (⟨by rw [he], by rw [he]⟩)
  · refine g_aload_n C dX1_change_8 rfl ?_
    refine g_iload_n C dX1_change_9 rfl ?_
    refine g_calli C (wf := MW o q tt) (mM_isRow (x := r)) rfl (MW_obj _ _ _ _) (cwV 1 C.2.2.2.2.1 (lw_V q222 q224 qs10 q16 q225) rfl rfl rfl (by decide +kernel) ⟨by decide, by decide⟩) dX1_change_10 (Nat.le_of_ble_eq_true rfl) ⟨by decide, by decide⟩ rfl (fun y u' hy => ?_)
    obtain ⟨rfl, rfl⟩ := hy
    refine g_if_ne C 18 dX1_change_13 (by decide) (fun h1 => ?_) (fun h1 => ?_)
    · obtain ⟨k, hk, rfl⟩ := row_of h1
      have e2 : ix (nI k) = k := ix_nI (by omega)
      have hE : mchangeF u N x (nI k) v = (if ¬ u 9 k = -4 ∧ ¬ u 9 k = x then (-2, u) else if nI 512 ≤ u 0 0 ∨ (¬ mOld u N < 0 ∧ u 5 (ix (mOld u N)) = 0) then (-3, u) else (0, mchg2F (mchg1F u (mOld u N)) N x k v)) := by
        unfold mchangeF
        rw [if_neg h, if_neg h1, e2]
      obtain ⟨T, hT⟩ : ∃ T, T = mchangeF u N x (nI k) v := ⟨_, rfl⟩
      rw [← hT] at RT hE
      have hO := mOld_ok u N
      have J152 : ∀ (u2 : Mem) (o5 : Option Value), u2 0 0 = nI N → N < 512 → T = (0, mchg2F u2 N x k v) → G p l e r1 s m args below meth c D A 6 0 0 Q (MW o q tt (u2)) 152 [some (.ref o), some (.int (x)), some (.int (nI k)), some (.int (v)), some (.int (mOld u N)), o5] [] := by
        intro u2 o5 h0 hN' he
        refine g_aload_n C dX1_change_152 rfl ?_
        refine mg_1 C dX1_change_153 ?_
        refine g_aload_n C dX1_change_156 rfl ?_
        refine mg_0 C dX1_change_157 ?_
        refine g_iload_n C dX1_change_160 rfl ?_
        refine ms_1 C (N) (h0) (hN') dX1_change_161 ?_
        refine g_aload_n C dX1_change_162 rfl ?_
        refine mg_2 C dX1_change_163 ?_
        refine g_aload_n C dX1_change_166 rfl ?_
        refine mg_0 C dX1_change_167 ?_
        refine g_iload_n C dX1_change_170 rfl ?_
        refine ms_2 C (N) (h0) (hN') dX1_change_171 ?_
        refine g_aload_n C dX1_change_172 rfl ?_
        refine mg_3 C dX1_change_173 ?_
        refine g_aload_n C dX1_change_176 rfl ?_
        refine mg_0 C dX1_change_177 ?_
        refine g_aload_n C dX1_change_180 rfl ?_
        refine mg_8 C dX1_change_181 ?_
        refine g_iload_n C dX1_change_184 rfl ?_
        refine ml_8 C (k) (rfl) (hk) dX1_change_185 ?_
        refine ms_3 C (N) (h0) (hN') dX1_change_186 ?_
        refine g_aload_n C dX1_change_187 rfl ?_
        refine mg_4 C dX1_change_188 ?_
        refine g_aload_n C dX1_change_191 rfl ?_
        refine mg_0 C dX1_change_192 ?_
        refine g_iload_n C dX1_change_195 rfl ?_
        refine ms_4 C (N) (h0) (hN') dX1_change_196 ?_
        refine g_aload_n C dX1_change_197 rfl ?_
        refine mg_5 C dX1_change_198 ?_
        refine g_aload_n C dX1_change_201 rfl ?_
        refine mg_0 C dX1_change_202 ?_
        refine g_iconst C (0) dX1_change_205 (by decide) ?_
        refine ms_5 C (N) (h0) (hN') dX1_change_206 ?_
        refine g_aload_n C dX1_change_207 rfl ?_
        refine mg_6 C dX1_change_208 ?_
        refine g_aload_n C dX1_change_211 rfl ?_
        refine mg_0 C dX1_change_212 ?_
        refine g_iconst C (1) dX1_change_215 (by decide) ?_
        refine ms_6 C (N) (h0) (hN') dX1_change_216 ?_
        refine g_aload_n C dX1_change_217 rfl ?_
        refine g_dup C dX1_change_218 rfl ?_
        refine mg_0 C dX1_change_219 ?_
        refine g_iconst C (1) dX1_change_222 (by decide) ?_
        refine g_iadd C dX1_change_223 ?_
        refine mp_0 C dX1_change_224 ?_
        refine g_aload_n C dX1_change_227 rfl ?_
        refine mg_8 C dX1_change_228 ?_
        refine g_iload_n C dX1_change_231 rfl ?_
        refine g_iload_n C dX1_change_232 rfl ?_
        refine ms_8 C (k) (rfl) (hk) dX1_change_233 ?_
        refine g_aload_n C dX1_change_234 rfl ?_
        refine mg_9 C dX1_change_235 ?_
        refine g_iload_n C dX1_change_238 rfl ?_
        refine g_iload_n C dX1_change_239 rfl ?_
        refine ms_9 C (k) (rfl) (hk) dX1_change_240 ?_
        refine g_iconst C (0) dX1_change_241 (by decide) ?_
        exact RT dX1_change_242 rfl (⟨by rw [he], by rw [he]; rfl⟩)
      have J89 : ¬ (nI 512 ≤ u 0 0 ∨ (¬ mOld u N < 0 ∧ u 5 (ix (mOld u N)) = 0)) → T = (0, mchg2F (mchg1F u (mOld u N)) N x k v) → G p l e r1 s m args below meth c D A 6 0 0 Q (MW o q tt (u)) 89 [some (.ref o), some (.int (x)), some (.int (nI k)), some (.int (v)), some (.int (mOld u N)), none] [] := by
        intro hno he
        have hN' : N < 512 := by
          rcases Nat.lt_or_ge N 512 with q | q
          · exact q
          · exact absurd (Or.inl (by rw [hN]; exact nI_le q (by omega))) hno
        refine g_iload C dX1_change_89 rfl ?_
        refine g_if_lt C 152 dX1_change_91 (by decide) (fun h5 => ?_) (fun h5 => ?_)
        · exact J152 u none hN hN' (he.trans (congrArg (fun z => ((0 : Int32), mchg2F z N x k v)) (if_pos h5)))
        · have ho := okN.ix hO hN5 h5
          have ho5 : ix (mOld u N) < 512 := Nat.lt_trans ho.2 hN'
          have hg := okP.ix (W (ix (mOld u N))) (by decide)
          have he1 : T = (0, mchg2F (mfgF u (ix (mOld u N))) N x k v) := he.trans (congrArg (fun z => ((0 : Int32), mchg2F z N x k v)) (if_neg h5))
          refine g_aload_n C dX1_change_94 rfl ?_
          refine mg_6 C dX1_change_95 ?_
          refine g_iload C dX1_change_98 rfl ?_
          refine g_iconst C (0) dX1_change_100 (by decide) ?_
          refine ms_6 C (ix (mOld u N)) (ho.1) (ho5) dX1_change_101 ?_
          refine g_aload_n C dX1_change_102 rfl ?_
          refine mg_1 C dX1_change_103 ?_
          refine g_iload C dX1_change_106 rfl ?_
          refine ml_1 C (ix (mOld u N)) (ho.1) (ho5) dX1_change_108 ?_
          refine g_istore C dX1_change_109 (by decide) ?_
          refine g_aload_n C dX1_change_111 rfl ?_
          refine mg_10 C dX1_change_112 ?_
          refine g_iload C dX1_change_115 rfl ?_
          refine g_aload_n C dX1_change_117 rfl ?_
          refine mg_5 C dX1_change_118 ?_
          refine g_iload C dX1_change_121 rfl ?_
          refine ml_5 C (ix (mOld u N)) (ho.1) (ho5) dX1_change_123 ?_
          refine g_aload_n C dX1_change_124 rfl ?_
          refine mg_10 C dX1_change_125 ?_
          refine g_iload C dX1_change_128 rfl ?_
          refine ml_10 C (ix (u 1 (ix (mOld u N)))) (hg.1) (hg.2) dX1_change_130 ?_
          refine g_icmp_le C 144 dX1_change_131 (by decide) (fun h6 => ?_) (fun h6 => ?_)
          · refine g_aload_n C dX1_change_144 rfl ?_
            refine mg_10 C dX1_change_145 ?_
            refine g_iload C dX1_change_148 rfl ?_
            refine ml_10 C (ix (u 1 (ix (mOld u N)))) (hg.1) (hg.2) dX1_change_150 ?_
            refine ms_10 C (ix (u 1 (ix (mOld u N)))) (hg.1) (hg.2) dX1_change_151 ?_
            refine J152 _ _ hN hN' (he1.trans (congrArg (fun z => ((0 : Int32), mchg2F z N x k v)) ?_))
            exact congrArg (fun z => pk (pk u 6 (ix (mOld u N)) (b1 0)) 10 (ix (u 1 (ix (mOld u N)))) z) (if_pos h6)
          · refine g_aload_n C dX1_change_134 rfl ?_
            refine mg_5 C dX1_change_135 ?_
            refine g_iload C dX1_change_138 rfl ?_
            refine ml_5 C (ix (mOld u N)) (ho.1) (ho5) dX1_change_140 ?_
            refine g_goto C 151 dX1_change_141 (by decide) ?_
            refine ms_10 C (ix (u 1 (ix (mOld u N)))) (hg.1) (hg.2) dX1_change_151 ?_
            refine J152 _ _ hN hN' (he1.trans (congrArg (fun z => ((0 : Int32), mchg2F z N x k v)) ?_))
            exact congrArg (fun z => pk (pk u 6 (ix (mOld u N)) (b1 0)) 10 (ix (u 1 (ix (mOld u N)))) z) (if_neg h6)
      have J59 : ¬ (¬ u 9 k = -4 ∧ ¬ u 9 k = x) → G p l e r1 s m args below meth c D A 6 0 0 Q (MW o q tt (u)) 59 [some (.ref o), some (.int (x)), some (.int (nI k)), some (.int (v)), none, none] [.int (mOld u N)] := by
        intro hnl
        rw [if_neg hnl] at hE
        refine g_istore C dX1_change_59 (by decide) ?_
        refine g_aload_n C dX1_change_61 rfl ?_
        refine mg_0 C dX1_change_62 ?_
        refine g_sipush C (nI 512) dX1_change_65 (by decide) ?_
        refine g_icmp_ge C 86 dX1_change_68 (by decide) (fun h3 => ?_) (fun h3 => ?_)
        · rw [if_pos (Or.inl h3)] at hE
          refine g_bipush C (-3) dX1_change_86 (by decide) ?_
          exact RT dX1_change_88 rfl (⟨by rw [hE], by rw [hE]⟩)
        · refine g_iload C dX1_change_71 rfl ?_
          refine g_if_lt C 89 dX1_change_73 (by decide) (fun h4 => ?_) (fun h4 => ?_)
          · have hno : ¬ (nI 512 ≤ u 0 0 ∨ (¬ mOld u N < 0 ∧ u 5 (ix (mOld u N)) = 0)) := fun z => z.elim h3 (fun z => z.1 h4)
            exact J89 hno (hE.trans (if_neg hno))
          · have ho := okN.ix hO hN5 h4
            refine g_aload_n C dX1_change_76 rfl ?_
            refine mg_5 C dX1_change_77 ?_
            refine g_iload C dX1_change_80 rfl ?_
            refine ml_5 C (ix (mOld u N)) (ho.1) (Nat.lt_of_lt_of_le ho.2 hN5) dX1_change_82 ?_
            refine g_if_ne C 89 dX1_change_83 (by decide) (fun h5 => ?_) (fun h5 => ?_)
            · have hno : ¬ (nI 512 ≤ u 0 0 ∨ (¬ mOld u N < 0 ∧ u 5 (ix (mOld u N)) = 0)) := fun z => z.elim h3 (fun z => h5 z.2)
              exact J89 hno (hE.trans (if_neg hno))
            · rw [if_pos (Or.inr ⟨h4, h5⟩)] at hE
              refine g_bipush C (-3) dX1_change_86 (by decide) ?_
              exact RT dX1_change_88 rfl (⟨by rw [hE], by rw [hE]⟩)
      have J42 : ¬ (¬ u 9 k = -4 ∧ ¬ u 9 k = x) → G p l e r1 s m args below meth c D A 6 0 0 Q (MW o q tt (u)) 42 [some (.ref o), some (.int (x)), some (.int (nI k)), some (.int (v)), none, none] [] := by
        intro hnl
        refine g_aload_n C dX1_change_42 rfl ?_
        refine g_calli C (wf := MW o q tt) (mM_remembered hN hN5) rfl (MW_obj _ _ _ _) (cwV 0 C.2.2.2.2.1 (lw_V q226 q227 q228 q16 q229) rfl rfl rfl (by decide +kernel) ⟨by decide, by decide⟩) dX1_change_43 (Nat.le_of_ble_eq_true rfl) ⟨by decide, by decide⟩ rfl (fun y u' hy => ?_)
        obtain ⟨rfl, rfl⟩ := hy
        refine g_bipush C (nI 24) dX1_change_46 (by decide) ?_
        refine g_icmp_ge C 55 dX1_change_48 (by decide) (fun h2 => ?_) (fun h2 => ?_)
        · have hm : mOld u N = oldF u N 0 := if_pos h2
          refine g_aload_n C dX1_change_55 rfl ?_
          refine g_calli C (wf := MW o q tt) (mM_oldestKept hN hN5) rfl (MW_obj _ _ _ _) (cwV 0 C.2.2.2.2.1 (lw_V q230 q232 qs11 q16 q233) rfl rfl rfl (by decide +kernel) ⟨by decide, by decide⟩) dX1_change_56 (Nat.le_of_ble_eq_true rfl) ⟨by decide, by decide⟩ rfl (fun y u' hy => ?_)
          obtain ⟨rfl, rfl⟩ := hy
          rw [← hm]
          exact J59 hnl
        · have hm : mOld u N = -1 := if_neg h2
          refine g_iconst C (-1) dX1_change_51 (by decide) ?_
          refine g_goto C 59 dX1_change_52 (by decide) ?_
          rw [← hm]
          exact J59 hnl
      refine g_aload_n C dX1_change_18 rfl ?_
      refine mg_9 C dX1_change_19 ?_
      refine g_iload_n C dX1_change_22 rfl ?_
      refine ml_9 C (k) (rfl) (hk) dX1_change_23 ?_
      refine g_bipush C (-4) dX1_change_24 (by decide) ?_
      refine g_icmp_eq C 42 dX1_change_26 (by decide) (fun h2 => ?_) (fun h2 => ?_)
      · exact J42 (fun z => z.1 h2)
      · refine g_aload_n C dX1_change_29 rfl ?_
        refine mg_9 C dX1_change_30 ?_
        refine g_iload_n C dX1_change_33 rfl ?_
        refine ml_9 C (k) (rfl) (hk) dX1_change_34 ?_
        refine g_iload_n C dX1_change_35 rfl ?_
        refine g_icmp_eq C 42 dX1_change_36 (by decide) (fun h3 => ?_) (fun h3 => ?_)
        · exact J42 (fun z => z.2 h3)
        · rw [if_pos ⟨h2, h3⟩] at hE
          refine g_bipush C (-2) dX1_change_39 (by decide) ?_
          exact RT dX1_change_41 rfl (⟨by rw [hE], by rw [hE]⟩)
    · have he : mchangeF u N x r v = (-1, u) := (if_neg h).trans (if_pos h1)
      refine g_iconst C (-1) dX1_change_16 (by decide) ?_
      exact RT dX1_change_17 rfl (⟨by rw [he], by rw [he]⟩)
set_option maxHeartbeats 4000000 in
set_option maxRecDepth 100000 in
theorem mM_read {D : va_G} {o : Nat} {q : Nat → Nat} {tt : Nat → ClassId} {u : Mem} {N : Nat} (hN : u 0 0 = nI N) (hN5 : N ≤ 512) {x r t : Int32} : Mi D (MK tt) o (MW o q tt) yX1_read cX1_read 4 .int r1 [.int x, .int r, .int t] u (fun y u' => y = mreadF u N x r t ∧ u = u') := by
  refine Mi.start 0 (by decide) (Nat.le_of_ble_eq_true rfl) rfl (List.forall_mem_cons.mpr ⟨rfl, List.forall_mem_cons.mpr ⟨rfl, List.forall_mem_cons.mpr ⟨rfl, List.forall_mem_cons.mpr ⟨rfl, fun _ h => absurd h List.not_mem_nil⟩⟩⟩⟩) ?_
  intro p l e s m args below meth c A Q C RT
  refine g_aload_n C dX1_read_0 rfl ?_
  refine g_iload_n C dX1_read_1 rfl ?_
  refine g_calli C (wf := MW o q tt) (mM_session (x := x)) rfl (MW_obj _ _ _ _) (cwV 1 C.2.2.2.2.1 (lw_V q218 q220 qs9 q16 q221) rfl rfl rfl (by decide +kernel) ⟨by decide, by decide⟩) dX1_read_2 (Nat.le_of_ble_eq_true rfl) ⟨by decide, by decide⟩ rfl (fun y u' hy => ?_)
  obtain ⟨rfl, rfl⟩ := hy
  refine g_if_eq C 28 dX1_read_5 (by decide) (fun h => ?_) (fun h => ?_)
  · refine g_iconst C (-1) dX1_read_28 (by decide) ?_
    exact RT dX1_read_29 rfl (⟨(if_pos h).symm, rfl⟩)
  · refine g_aload_n C dX1_read_8 rfl ?_
    refine g_iload_n C dX1_read_9 rfl ?_
    refine g_calli C (wf := MW o q tt) (mM_isRow (x := r)) rfl (MW_obj _ _ _ _) (cwV 1 C.2.2.2.2.1 (lw_V q222 q224 qs10 q16 q225) rfl rfl rfl (by decide +kernel) ⟨by decide, by decide⟩) dX1_read_10 (Nat.le_of_ble_eq_true rfl) ⟨by decide, by decide⟩ rfl (fun y u' hy => ?_)
    obtain ⟨rfl, rfl⟩ := hy
    refine g_if_eq C 28 dX1_read_13 (by decide) (fun h1 => ?_) (fun h1 => ?_)
    · refine g_iconst C (-1) dX1_read_28 (by decide) ?_
      exact RT dX1_read_29 rfl (⟨((if_neg h).trans (if_pos h1)).symm, rfl⟩)
    · obtain ⟨k, hk, rfl⟩ := row_of h1
      have e2 : ix (nI k) = k := ix_nI (by omega)
      refine g_iload_n C dX1_read_16 rfl ?_
      refine g_if_lt C 28 dX1_read_17 (by decide) (fun h2 => ?_) (fun h2 => ?_)
      · refine g_iconst C (-1) dX1_read_28 (by decide) ?_
        exact RT dX1_read_29 rfl (⟨((if_neg h).trans ((if_neg h1).trans (if_pos h2))).symm, rfl⟩)
      · refine g_iload_n C dX1_read_20 rfl ?_
        refine g_aload_n C dX1_read_21 rfl ?_
        refine mg_7 C dX1_read_22 ?_
        refine g_icmp_le C 30 dX1_read_25 (by decide) (fun h3 => ?_) (fun h3 => ?_)
        · have hE : mreadF u N x (nI k) t = (if u 9 k = x then u 8 k else if u 10 k ≤ t then valF u (nI k) t N 0 0 else -2000000000) := by
            unfold mreadF
            rw [if_neg h, if_neg h1, if_neg h2, if_pos h3, e2]
          refine g_aload_n C dX1_read_30 rfl ?_
          refine mg_9 C dX1_read_31 ?_
          refine g_iload_n C dX1_read_34 rfl ?_
          refine ml_9 C (k) (rfl) (hk) dX1_read_35 ?_
          refine g_iload_n C dX1_read_36 rfl ?_
          refine g_icmp_ne C 47 dX1_read_37 (by decide) (fun h4 => ?_) (fun h4 => ?_)
          · refine g_aload_n C dX1_read_47 rfl ?_
            refine mg_10 C dX1_read_48 ?_
            refine g_iload_n C dX1_read_51 rfl ?_
            refine ml_10 C (k) (rfl) (hk) dX1_read_52 ?_
            refine g_iload_n C dX1_read_53 rfl ?_
            refine g_icmp_le C 62 dX1_read_54 (by decide) (fun h5 => ?_) (fun h5 => ?_)
            · refine g_aload_n C dX1_read_62 rfl ?_
              refine g_iload_n C dX1_read_63 rfl ?_
              refine g_iload_n C dX1_read_64 rfl ?_
              refine g_calli C (wf := MW o q tt) (mM_valueAt hN hN5 (r := nI k) (t := t)) rfl (MW_obj _ _ _ _) (cwV 2 C.2.2.2.2.1 (lw_V q259 q261 qs13 q16 q262) rfl rfl rfl (by decide +kernel) ⟨by decide, by decide⟩) dX1_read_65 (Nat.le_of_ble_eq_true rfl) ⟨by decide, by decide⟩ rfl (fun y u' hy => ?_)
              obtain ⟨rfl, rfl⟩ := hy
              exact RT dX1_read_68 rfl (⟨(hE.trans ((if_neg h4).trans (if_pos h5))).symm, rfl⟩)
            · refine g_ldc C q258 dX1_read_57 ?_
              refine g_goto C 68 dX1_read_59 (by decide) ?_
              exact RT dX1_read_68 rfl (⟨(hE.trans ((if_neg h4).trans (if_neg h5))).symm, rfl⟩)
          · refine g_aload_n C dX1_read_40 rfl ?_
            refine mg_8 C dX1_read_41 ?_
            refine g_iload_n C dX1_read_44 rfl ?_
            refine ml_8 C (k) (rfl) (hk) dX1_read_45 ?_
            exact RT dX1_read_46 rfl (⟨(hE.trans (if_pos h4)).symm, rfl⟩)
        · refine g_iconst C (-1) dX1_read_28 (by decide) ?_
          exact RT dX1_read_29 rfl (⟨((if_neg h).trans ((if_neg h1).trans ((if_neg h2).trans (if_neg h3)))).symm, rfl⟩)
set_option maxHeartbeats 4000000 in
set_option maxRecDepth 100000 in
theorem mM_raw {D : va_G} {o : Nat} {q : Nat → Nat} {tt : Nat → ClassId} {u : Mem} {x : Int32} : Mi D (MK tt) o (MW o q tt) yX1_raw cX1_raw 2 .int r1 [.int x] u (fun r u' => r = mrawF u x ∧ u = u') := by
  refine Mi.start 0 (by decide) (Nat.le_of_ble_eq_true rfl) rfl (List.forall_mem_cons.mpr ⟨rfl, List.forall_mem_cons.mpr ⟨rfl, fun _ h => absurd h List.not_mem_nil⟩⟩) ?_
  intro p l e s m args below meth c A Q C RT
  refine g_aload_n C dX1_raw_0 rfl ?_
  refine g_iload_n C dX1_raw_1 rfl ?_
  refine g_calli C (wf := MW o q tt) (mM_isRow (x := x)) rfl (MW_obj _ _ _ _) (cwV 1 C.2.2.2.2.1 (lw_V q222 q224 qs10 q16 q225) rfl rfl rfl (by decide +kernel) ⟨by decide, by decide⟩) dX1_raw_2 (Nat.le_of_ble_eq_true rfl) ⟨by decide, by decide⟩ rfl (fun y u' hy => ?_)
  obtain ⟨rfl, rfl⟩ := hy
  refine g_if_eq C 17 dX1_raw_5 (by decide) (fun h => ?_) (fun h => ?_)
  · refine g_iconst C (0) dX1_raw_17 (by decide) ?_
    exact RT dX1_raw_18 rfl (⟨(if_pos h).symm, rfl⟩)
  · obtain ⟨j, hj, rfl⟩ := row_of h
    have e1 : ix (nI j) = j := ix_nI (by omega)
    refine g_aload_n C dX1_raw_8 rfl ?_
    refine mg_8 C dX1_raw_9 ?_
    refine g_iload_n C dX1_raw_12 rfl ?_
    refine ml_8 C (j) (rfl) (hj) dX1_raw_13 ?_
    refine g_goto C 18 dX1_raw_14 (by decide) ?_
    exact RT dX1_raw_18 rfl (⟨by unfold mrawF; rw [if_neg h, e1], rfl⟩)
set_option maxHeartbeats 4000000 in
set_option maxRecDepth 100000 in
theorem mM_holder {D : va_G} {o : Nat} {q : Nat → Nat} {tt : Nat → ClassId} {u : Mem} {x : Int32} : Mi D (MK tt) o (MW o q tt) yX1_holder cX1_holder 2 .int r1 [.int x] u (fun r u' => r = mholderF u x ∧ u = u') := by
  refine Mi.start 0 (by decide) (Nat.le_of_ble_eq_true rfl) rfl (List.forall_mem_cons.mpr ⟨rfl, List.forall_mem_cons.mpr ⟨rfl, fun _ h => absurd h List.not_mem_nil⟩⟩) ?_
  intro p l e s m args below meth c A Q C RT
  refine g_aload_n C dX1_holder_0 rfl ?_
  refine g_iload_n C dX1_holder_1 rfl ?_
  refine g_calli C (wf := MW o q tt) (mM_isRow (x := x)) rfl (MW_obj _ _ _ _) (cwV 1 C.2.2.2.2.1 (lw_V q222 q224 qs10 q16 q225) rfl rfl rfl (by decide +kernel) ⟨by decide, by decide⟩) dX1_holder_2 (Nat.le_of_ble_eq_true rfl) ⟨by decide, by decide⟩ rfl (fun y u' hy => ?_)
  obtain ⟨rfl, rfl⟩ := hy
  refine g_if_eq C 17 dX1_holder_5 (by decide) (fun h => ?_) (fun h => ?_)
  · refine g_bipush C (-4) dX1_holder_17 (by decide) ?_
    exact RT dX1_holder_19 rfl (⟨(if_pos h).symm, rfl⟩)
  · obtain ⟨j, hj, rfl⟩ := row_of h
    have e1 : ix (nI j) = j := ix_nI (by omega)
    refine g_aload_n C dX1_holder_8 rfl ?_
    refine mg_9 C dX1_holder_9 ?_
    refine g_iload_n C dX1_holder_12 rfl ?_
    refine ml_9 C (j) (rfl) (hj) dX1_holder_13 ?_
    refine g_goto C 19 dX1_holder_14 (by decide) ?_
    exact RT dX1_holder_19 rfl (⟨by unfold mholderF; rw [if_neg h, e1], rfl⟩)
set_option maxHeartbeats 4000000 in
set_option maxRecDepth 100000 in
theorem mM_oldest {D : va_G} {o : Nat} {q : Nat → Nat} {tt : Nat → ClassId} {u : Mem} {x : Int32} : Mi D (MK tt) o (MW o q tt) yX1_oldest cX1_oldest 2 .int r1 [.int x] u (fun r u' => r = moldestF u x ∧ u = u') := by
  refine Mi.start 0 (by decide) (Nat.le_of_ble_eq_true rfl) rfl (List.forall_mem_cons.mpr ⟨rfl, List.forall_mem_cons.mpr ⟨rfl, fun _ h => absurd h List.not_mem_nil⟩⟩) ?_
  intro p l e s m args below meth c A Q C RT
  refine g_aload_n C dX1_oldest_0 rfl ?_
  refine g_iload_n C dX1_oldest_1 rfl ?_
  refine g_calli C (wf := MW o q tt) (mM_isRow (x := x)) rfl (MW_obj _ _ _ _) (cwV 1 C.2.2.2.2.1 (lw_V q222 q224 qs10 q16 q225) rfl rfl rfl (by decide +kernel) ⟨by decide, by decide⟩) dX1_oldest_2 (Nat.le_of_ble_eq_true rfl) ⟨by decide, by decide⟩ rfl (fun y u' hy => ?_)
  obtain ⟨rfl, rfl⟩ := hy
  refine g_if_eq C 17 dX1_oldest_5 (by decide) (fun h => ?_) (fun h => ?_)
  · refine g_iconst C (-1) dX1_oldest_17 (by decide) ?_
    exact RT dX1_oldest_18 rfl (⟨(if_pos h).symm, rfl⟩)
  · obtain ⟨j, hj, rfl⟩ := row_of h
    have e1 : ix (nI j) = j := ix_nI (by omega)
    refine g_aload_n C dX1_oldest_8 rfl ?_
    refine mg_10 C dX1_oldest_9 ?_
    refine g_iload_n C dX1_oldest_12 rfl ?_
    refine ml_10 C (j) (rfl) (hj) dX1_oldest_13 ?_
    refine g_goto C 18 dX1_oldest_14 (by decide) ?_
    exact RT dX1_oldest_18 rfl (⟨by unfold moldestF; rw [if_neg h, e1], rfl⟩)
set_option maxHeartbeats 4000000 in
set_option maxRecDepth 100000 in
theorem mM_locks {D : va_G} {o : Nat} {q : Nat → Nat} {tt : Nat → ClassId} {u : Mem} {x : Int32} : Mi D (MK tt) o (MW o q tt) yX1_locks cX1_locks 4 .int r1 [.int x] u (fun r u' => r = mlockL u x 8 0 0 ∧ u = u') := by
  refine Mi.start 2 (by decide) (Nat.le_of_ble_eq_true rfl) rfl (List.forall_mem_cons.mpr ⟨rfl, List.forall_mem_cons.mpr ⟨rfl, fun _ h => absurd h List.not_mem_nil⟩⟩) ?_
  intro p l e s m args below meth c A Q C RT
  obtain ⟨T, hT⟩ : ∃ T, T = mlockL u x 8 0 0 := ⟨_, rfl⟩
  rw [← hT] at RT
  have loop : ∀ (n r : Nat) (set : Int32), n + r = 8 → T = mlockL u x n r set → G p l e r1 s m args below meth c D A 4 0 0 Q (MW o q tt (u)) 4 [some (.ref o), some (.int (x)), some (.int (set)), some (.int (nI r))] [] := by
    intro n
    induction n with
    | zero =>
      intro r set hr he
      refine g_iload_n C dX1_locks_4 rfl ?_
      refine g_bipush C (nI 8) dX1_locks_5 (by decide) ?_
      refine g_icmp_ge C 44 dX1_locks_7 (by decide) (fun h => ?_) (fun h => ?_)
      · refine g_iload_n C dX1_locks_44 rfl ?_
        exact RT dX1_locks_45 rfl (⟨he.symm, rfl⟩)
      · exact absurd (nI_le (by omega) (by omega)) h
    | succ n ih =>
      intro r set hr he
      have hr8 : r < 8 := by omega
      unfold mlockL at he
      have J37 : ∀ set' : Int32, set' = mlockStep u x r set → G p l e r1 s m args below meth c D A 4 0 0 Q (MW o q tt (u)) 37 [some (.ref o), some (.int (x)), some (.int (set)), some (.int (nI r))] [.int (set')] := by
        intro set' hs
        refine g_istore_n C dX1_locks_37 (by decide) ?_
        refine g_iinc C (nI (r + 1)) dX1_locks_38 rfl (inc1 r) (by decide) ?_
        refine g_goto C 4 dX1_locks_41 (by decide) ?_
        exact ih (r + 1) set' (by omega) (by rw [hs]; exact he)
      refine g_iload_n C dX1_locks_4 rfl ?_
      refine g_bipush C (nI 8) dX1_locks_5 (by decide) ?_
      refine g_icmp_ge C 44 dX1_locks_7 (by decide) (fun h => ?_) (fun h => ?_)
      · exact absurd h (nI_ge (by omega) (by omega))
      · refine g_aload_n C dX1_locks_10 rfl ?_
        refine g_iload_n C dX1_locks_11 rfl ?_
        refine g_calli C (wf := MW o q tt) (mM_session (x := x)) rfl (MW_obj _ _ _ _) (cwV 1 C.2.2.2.2.1 (lw_V q218 q220 qs9 q16 q221) rfl rfl rfl (by decide +kernel) ⟨by decide, by decide⟩) dX1_locks_12 (Nat.le_of_ble_eq_true rfl) ⟨by decide, by decide⟩ rfl (fun y u' hy => ?_)
        obtain ⟨rfl, rfl⟩ := hy
        refine g_if_eq C 36 dX1_locks_15 (by decide) (fun h1 => ?_) (fun h1 => ?_)
        · refine g_iload_n C dX1_locks_36 rfl ?_
          exact J37 set (if_pos h1).symm
        · refine g_aload_n C dX1_locks_18 rfl ?_
          refine mg_9 C dX1_locks_19 ?_
          refine g_iload_n C dX1_locks_22 rfl ?_
          refine ml_9 C (r) (rfl) (hr8) dX1_locks_23 ?_
          refine g_iload_n C dX1_locks_24 rfl ?_
          refine g_icmp_ne C 36 dX1_locks_25 (by decide) (fun h2 => ?_) (fun h2 => ?_)
          · refine g_iload_n C dX1_locks_36 rfl ?_
            exact J37 set ((if_neg h1).trans (if_neg h2)).symm
          · refine g_iload_n C dX1_locks_28 rfl ?_
            refine g_iconst C (1) dX1_locks_29 (by decide) ?_
            refine g_iload_n C dX1_locks_30 rfl ?_
            refine g_ishl C dX1_locks_31 ?_
            refine g_ior C dX1_locks_32 ?_
            refine g_goto C 37 dX1_locks_33 (by decide) ?_
            exact J37 _ ((if_neg h1).trans (if_pos h2)).symm
  refine g_iconst C (0) dX1_locks_0 (by decide) ?_
  refine g_istore_n C dX1_locks_1 (by decide) ?_
  refine g_iconst C (0) dX1_locks_2 (by decide) ?_
  refine g_istore_n C dX1_locks_3 (by decide) ?_
  exact loop 8 0 0 rfl hT
set_option maxHeartbeats 4000000 in
set_option maxRecDepth 100000 in
theorem mM_changedSince {D : va_G} {o : Nat} {q : Nat → Nat} {tt : Nat → ClassId} {u : Mem} {N : Nat} (hN : u 0 0 = nI N) (hN5 : N ≤ 512) {t : Int32} : Mi D (MK tt) o (MW o q tt) yX1_changedSince cX1_changedSince 4 .int r1 [.int t] u (fun r u' => r = mchsF u N t ∧ u = u') := by
  refine Mi.start 2 (by decide) (Nat.le_of_ble_eq_true rfl) rfl (List.forall_mem_cons.mpr ⟨rfl, List.forall_mem_cons.mpr ⟨rfl, fun _ h => absurd h List.not_mem_nil⟩⟩) ?_
  intro p l e s m args below meth c A Q C RT
  refine g_iconst C (0) dX1_changedSince_0 (by decide) ?_
  refine g_istore_n C dX1_changedSince_1 (by decide) ?_
  refine g_iconst C (0) dX1_changedSince_2 (by decide) ?_
  refine g_istore_n C dX1_changedSince_3 (by decide) ?_
  refine g_iload_n C dX1_changedSince_4 rfl ?_
  refine g_bipush C (nI 8) dX1_changedSince_5 (by decide) ?_
  refine g_icmp_ge C 66 dX1_changedSince_7 (by decide) (fun h9 => ?_) (fun h9 => ?_)
  · exact absurd h9 (by decide)
  · refine g_iload_n C dX1_changedSince_10 rfl ?_
    refine g_if_lt C 66 dX1_changedSince_11 (by decide) (fun h => ?_) (fun h => ?_)
    · refine g_iload_n C dX1_changedSince_66 rfl ?_
      exact RT dX1_changedSince_67 rfl (⟨(if_pos h).symm, rfl⟩)
    · refine g_iload_n C dX1_changedSince_14 rfl ?_
      refine g_aload_n C dX1_changedSince_15 rfl ?_
      refine mg_7 C dX1_changedSince_16 ?_
      refine g_icmp_gt C 66 dX1_changedSince_19 (by decide) (fun h1 => ?_) (fun h1 => ?_)
      · refine g_iload_n C dX1_changedSince_66 rfl ?_
        exact RT dX1_changedSince_67 rfl (⟨((if_neg h).trans (if_pos h1)).symm, rfl⟩)
      · have hE : mchsF u N t = mchsL u N t 8 0 0 := (if_neg h).trans (if_neg h1)
        obtain ⟨T, hT⟩ : ∃ T, T = mchsF u N t := ⟨_, rfl⟩
        rw [← hT] at RT hE
        have body : ∀ (n r : Nat) (set : Int32), n + 1 + r = 8 → T = mchsL u N t (n + 1) r set → (∀ set' : Int32, T = mchsL u N t n (r + 1) set' → G p l e r1 s m args below meth c D A 4 0 0 Q (MW o q tt (u)) 4 [some (.ref o), some (.int (t)), some (.int (set')), some (.int (nI (r + 1)))] []) → G p l e r1 s m args below meth c D A 4 0 0 Q (MW o q tt (u)) 22 [some (.ref o), some (.int (t)), some (.int (set)), some (.int (nI r))] [] := by
          intro n r set hr he ih
          have hr8 : r < 8 := by omega
          unfold mchsL at he
          have J59 : ∀ set' : Int32, set' = mchsStep u N t r set → G p l e r1 s m args below meth c D A 4 0 0 Q (MW o q tt (u)) 59 [some (.ref o), some (.int (t)), some (.int (set)), some (.int (nI r))] [.int (set')] := by
            intro set' hs
            refine g_istore_n C dX1_changedSince_59 (by decide) ?_
            refine g_iinc C (nI (r + 1)) dX1_changedSince_60 rfl (inc1 r) (by decide) ?_
            refine g_goto C 4 dX1_changedSince_63 (by decide) ?_
            exact ih set' (by rw [hs]; exact he)
          refine g_aload_n C dX1_changedSince_22 rfl ?_
          refine mg_10 C dX1_changedSince_23 ?_
          refine g_iload_n C dX1_changedSince_26 rfl ?_
          refine ml_10 C (r) (rfl) (hr8) dX1_changedSince_27 ?_
          refine g_iload_n C dX1_changedSince_28 rfl ?_
          refine g_icmp_gt C 58 dX1_changedSince_29 (by decide) (fun h3 => ?_) (fun h3 => ?_)
          · refine g_iload_n C dX1_changedSince_58 rfl ?_
            exact J59 set (if_pos h3).symm
          · refine g_aload_n C dX1_changedSince_32 rfl ?_
            refine g_iload_n C dX1_changedSince_33 rfl ?_
            refine g_iload_n C dX1_changedSince_34 rfl ?_
            refine g_calli C (wf := MW o q tt) (mM_valueAt hN hN5 (r := nI r) (t := t)) rfl (MW_obj _ _ _ _) (cwV 2 C.2.2.2.2.1 (lw_V q259 q261 qs13 q16 q262) rfl rfl rfl (by decide +kernel) ⟨by decide, by decide⟩) dX1_changedSince_35 (Nat.le_of_ble_eq_true rfl) ⟨by decide, by decide⟩ rfl (fun y u' hy => ?_)
            obtain ⟨rfl, rfl⟩ := hy
            refine g_aload_n C dX1_changedSince_38 rfl ?_
            refine g_iload_n C dX1_changedSince_39 rfl ?_
            refine g_aload_n C dX1_changedSince_40 rfl ?_
            refine mg_7 C dX1_changedSince_41 ?_
            refine g_calli C (wf := MW o q tt) (mM_valueAt hN hN5 (r := nI r) (t := u 7 0)) rfl (MW_obj _ _ _ _) (cwV 2 C.2.2.2.2.1 (lw_V q259 q261 qs13 q16 q262) rfl rfl rfl (by decide +kernel) ⟨by decide, by decide⟩) dX1_changedSince_44 (Nat.le_of_ble_eq_true rfl) ⟨by decide, by decide⟩ rfl (fun y u' hy => ?_)
            obtain ⟨rfl, rfl⟩ := hy
            refine g_icmp_eq C 58 dX1_changedSince_47 (by decide) (fun h4 => ?_) (fun h4 => ?_)
            · refine g_iload_n C dX1_changedSince_58 rfl ?_
              exact J59 set ((if_neg h3).trans (if_pos h4)).symm
            · refine g_iload_n C dX1_changedSince_50 rfl ?_
              refine g_iconst C (1) dX1_changedSince_51 (by decide) ?_
              refine g_iload_n C dX1_changedSince_52 rfl ?_
              refine g_ishl C dX1_changedSince_53 ?_
              refine g_ior C dX1_changedSince_54 ?_
              refine g_goto C 59 dX1_changedSince_55 (by decide) ?_
              exact J59 _ ((if_neg h3).trans (if_neg h4)).symm
        have loop : ∀ (n r : Nat) (set : Int32), n + r = 8 → T = mchsL u N t n r set → G p l e r1 s m args below meth c D A 4 0 0 Q (MW o q tt (u)) 4 [some (.ref o), some (.int (t)), some (.int (set)), some (.int (nI r))] [] := by
          intro n
          induction n with
          | zero =>
            intro r set hr he
            refine g_iload_n C dX1_changedSince_4 rfl ?_
            refine g_bipush C (nI 8) dX1_changedSince_5 (by decide) ?_
            refine g_icmp_ge C 66 dX1_changedSince_7 (by decide) (fun h2 => ?_) (fun h2 => ?_)
            · refine g_iload_n C dX1_changedSince_66 rfl ?_
              exact RT dX1_changedSince_67 rfl (⟨he.symm, rfl⟩)
            · exact absurd (nI_le (by omega) (by omega)) h2
          | succ n ih =>
            intro r set hr he
            refine g_iload_n C dX1_changedSince_4 rfl ?_
            refine g_bipush C (nI 8) dX1_changedSince_5 (by decide) ?_
            refine g_icmp_ge C 66 dX1_changedSince_7 (by decide) (fun h2 => ?_) (fun h2 => ?_)
            · exact absurd h2 (nI_ge (by omega) (by omega))
            · refine g_iload_n C dX1_changedSince_10 rfl ?_
              refine g_if_lt C 66 dX1_changedSince_11 (by decide) (fun h3 => ?_) (fun h3 => ?_)
              · exact absurd h3 h
              · refine g_iload_n C dX1_changedSince_14 rfl ?_
                refine g_aload_n C dX1_changedSince_15 rfl ?_
                refine mg_7 C dX1_changedSince_16 ?_
                refine g_icmp_gt C 66 dX1_changedSince_19 (by decide) (fun h4 => ?_) (fun h4 => ?_)
                · exact absurd h4 h1
                · exact body n r set hr he (fun set' he' => ih (r + 1) set' (by omega) he')
        exact body 7 0 0 rfl hE (fun set' he' => loop 7 1 set' rfl he')
end
section
abbrev rIX : Room := { frames := 1, cells := 12, slots := 236, locals := 30 }
abbrev f0X : List Value := [.null, .null, .null, .null, .null, .null, .null, .null, .null, .int 0, .int 0, .int 0, .int 0, .int 0, .null, .null, .null, .int 0]
def iX1 : Nat → Nat → Mem → Mem
  | 0, _, u => u
  | n + 1, r, u => iX1 n (r + 1) (pk u 1 r (b8 (-1)))
def iX2 : Nat → Nat → Mem → Mem
  | 0, _, u => u
  | n + 1, r, u => iX2 n (r + 1) (pk u 16 r (b8 (-1)))
def u0X : Mem := iX2 4 0 (iX1 8 0 (pk (pk (fun _ _ => 0) 10 0 (-1)) 11 0 (-1)))
set_option maxHeartbeats 1000000 in
set_option maxRecDepth 100000 in
theorem mX_init {D : va_G} {o : Nat} : ∀ (l : Launch) (sz : Nat), Met l yX0_init (ws_ yX0_init cX0_init 2 none) rIX (va_Pc [.ref o] (Wpre D [] [(o, .inr (0, f0X))] sz)) (va_Qv (fun _ : (Nat → Nat) × (Nat → ClassId) => True) (fun z t => WB D (XK z.2) (XW o z.1 z.2) (va_A [(o, .inr (0, f0X))] sz) u0X t) (va_A [(o, .inr (0, f0X))] sz)) 12 236 (va_A [(o, .inr (0, f0X))] sz) := by
  intro l sz
  refine Met.ofW (cc := cX0_init) (maxL := 2) (ret := none) (by decide) rfl ?_
  intro p e s m args below meth c s₁ B hml hv
  obtain ⟨rfl, hsz, hP, hK, hD0⟩ := hv
  have hx := B.exec
  have hb := B.bytes
  have hr := B.returns
  have hts := atoms_spec (ws := ws_ yX0_init cX0_init 2 none) B.pre
  have hts : ∀ w ∈ lw_all, w.before _ s = true := fun w h => hts w (List.mem_cons_of_mem _ h)
  have hown : s.vm.findClass RX0 = some m.cls := findClass_of_methodNamed B.named
  have hlocks := B.notSynchronized
  have hin : meth.name = "<init>" := (name_of_methodNamed B.named B.method).1
  subst hsz
  have hD := hD0.self (sz := s.heap.size)
  generalize hAe : va_A [(o, .inr (0, f0X))] s.heap.size = A at hD ⊢
  have hA : ∀ q : Nat, s.heap.size ≤ q → A q := fun q h => by rw [← hAe]; exact Or.inr h
  have hS : va_S A s.heap s.heap [] := va_S.rf
  have hl := lo_entry (vs := [.ref o]) (nL := 2) (k := 1) (Nat.le_of_ble_eq_true rfl) rfl (List.forall_mem_cons.mpr ⟨rfl, fun _ h => absurd h List.not_mem_nil⟩)
  rw [lg_entry_eq]
  generalize (lg_sl ([.ref o]) ++ List.replicate (2 - (lg_sl ([.ref o])).length) Slot.unset).toArray = ls at hl ⊢
  have hl0 : ls[0]? = some (.val (.ref o)) := (hl.2.2 0 (.ref o) rfl).1
  refine lv_aload_n hx hb dX0_init_0 rfl hl0 ?_
  refine W.objInit hx hb hown (hts _ q22) (hts _ q23) (hts _ q24) rfl (by rw [hml]; exact hl.1) rfl dX0_init_1 (Nat.le_of_ble_eq_true rfl) (Nat.le_of_ble_eq_true rfl) ?_
  refine W.eq (g2 := F0 m 4 ls []) rfl ?_
  refine lv_aload_n hx hb dX0_init_4 rfl hl0 ?_
  refine lv_bipush (v := nI 8) hx hb dX0_init_5 (by decide) ?_
  refine va_newa (atype := .int) (ty := .int) (N' := 8) (a0 := (8, .inl (fun _ => 0))) hx hb (hts _ q80) rfl hK hP hD hS hA (fun _ => rfl) (by decide) (by decide) (by decide) (Nat.le_of_ble_eq_true rfl) (Nat.le_of_ble_eq_true rfl) dX0_init_7 (fun a0 t0 H hK hP hD hS => ?_)
  have hP : va_P D vwCl [(o, .inr (0, [.null, .null, .null, .null, .null, .null, .null, .null, .null, .int 0, .int 0, .int 0, .int 0, .int 0, .null, .null, .null, .int 0])), (a0, .inl (t0, 8, .inl (fun _ => 0)))] H := hP
  have hD : va_D A [(o, .inr (0, [.null, .null, .null, .null, .null, .null, .null, .null, .null, .int 0, .int 0, .int 0, .int 0, .int 0, .null, .null, .null, .int 0])), (a0, .inl (t0, 8, .inl (fun _ => 0)))] := hD
  have hK : va_K D vwCl [(t0, .int)] s := hK
  refine W.widen (k := 1) (n := 8) (Nat.le_of_ble_eq_true rfl) (Nat.le_of_ble_eq_true rfl) ?_
  refine va_putF (ci := 0) (v := .ref a0) (ty := .array .int) (C := RX0) (T := TX0) (N := 18) hx hb hts in_X0 tyX0 tyX0_ok nmX0 hown hK hP hD hS 0 rfl rfl 0 (by decide) (hts _ q25) (fun _ h9 => h9) rfl hin rfl (by decide +kernel) rfl rfl (Nat.le_of_ble_eq_true rfl) dX0_init_9 (fun H locs hP hD hS => ?_)
  have hP : va_P D vwCl [(o, .inr (0, [.ref a0, .null, .null, .null, .null, .null, .null, .null, .null, .int 0, .int 0, .int 0, .int 0, .int 0, .null, .null, .null, .int 0])), (a0, .inl (t0, 8, .inl (fun _ => 0)))] H := hP
  have hD : va_D A [(o, .inr (0, [.ref a0, .null, .null, .null, .null, .null, .null, .null, .null, .int 0, .int 0, .int 0, .int 0, .int 0, .null, .null, .null, .int 0])), (a0, .inl (t0, 8, .inl (fun _ => 0)))] := hD
  refine lv_aload_n hx hb dX0_init_12 rfl hl0 ?_
  refine lv_bipush (v := nI 8) hx hb dX0_init_13 (by decide) ?_
  refine va_newa (atype := .byte) (ty := .byte) (N' := 8) (a0 := (8, .inl (fun _ => 0))) hx hb (hts _ q81) rfl hK hP hD hS hA (fun _ => rfl) (by decide) (by decide) (by decide) (Nat.le_of_ble_eq_true rfl) (Nat.le_of_ble_eq_true rfl) dX0_init_15 (fun a1 t1 H hK hP hD hS => ?_)
  have hP : va_P D vwCl [(o, .inr (0, [.ref a0, .null, .null, .null, .null, .null, .null, .null, .null, .int 0, .int 0, .int 0, .int 0, .int 0, .null, .null, .null, .int 0])), (a0, .inl (t0, 8, .inl (fun _ => 0))), (a1, .inl (t1, 8, .inl (fun _ => 0)))] H := hP
  have hD : va_D A [(o, .inr (0, [.ref a0, .null, .null, .null, .null, .null, .null, .null, .null, .int 0, .int 0, .int 0, .int 0, .int 0, .null, .null, .null, .int 0])), (a0, .inl (t0, 8, .inl (fun _ => 0))), (a1, .inl (t1, 8, .inl (fun _ => 0)))] := hD
  have hK : va_K D vwCl [(t0, .int), (t1, .byte)] s := hK
  refine W.widen (k := 2) (n := 16) (Nat.le_of_ble_eq_true rfl) (Nat.le_of_ble_eq_true rfl) ?_
  refine va_putF (ci := 0) (v := .ref a1) (ty := .array .byte) (C := RX0) (T := TX0) (N := 18) hx hb hts in_X0 tyX0 tyX0_ok nmX0 hown hK hP hD hS 0 rfl rfl 1 (by decide) (hts _ q26) (fun _ h9 => h9) rfl hin rfl (by decide +kernel) rfl rfl (Nat.le_of_ble_eq_true rfl) dX0_init_17 (fun H locs hP hD hS => ?_)
  have hP : va_P D vwCl [(o, .inr (0, [.ref a0, .ref a1, .null, .null, .null, .null, .null, .null, .null, .int 0, .int 0, .int 0, .int 0, .int 0, .null, .null, .null, .int 0])), (a0, .inl (t0, 8, .inl (fun _ => 0))), (a1, .inl (t1, 8, .inl (fun _ => 0)))] H := hP
  have hD : va_D A [(o, .inr (0, [.ref a0, .ref a1, .null, .null, .null, .null, .null, .null, .null, .int 0, .int 0, .int 0, .int 0, .int 0, .null, .null, .null, .int 0])), (a0, .inl (t0, 8, .inl (fun _ => 0))), (a1, .inl (t1, 8, .inl (fun _ => 0)))] := hD
  refine lv_aload_n hx hb dX0_init_20 rfl hl0 ?_
  refine lv_bipush (v := nI 8) hx hb dX0_init_21 (by decide) ?_
  refine va_newa (atype := .int) (ty := .int) (N' := 8) (a0 := (8, .inl (fun _ => 0))) hx hb (hts _ q80) rfl hK hP hD hS hA (fun _ => rfl) (by decide) (by decide) (by decide) (Nat.le_of_ble_eq_true rfl) (Nat.le_of_ble_eq_true rfl) dX0_init_23 (fun a2 t2 H hK hP hD hS => ?_)
  have hP : va_P D vwCl [(o, .inr (0, [.ref a0, .ref a1, .null, .null, .null, .null, .null, .null, .null, .int 0, .int 0, .int 0, .int 0, .int 0, .null, .null, .null, .int 0])), (a0, .inl (t0, 8, .inl (fun _ => 0))), (a1, .inl (t1, 8, .inl (fun _ => 0))), (a2, .inl (t2, 8, .inl (fun _ => 0)))] H := hP
  have hD : va_D A [(o, .inr (0, [.ref a0, .ref a1, .null, .null, .null, .null, .null, .null, .null, .int 0, .int 0, .int 0, .int 0, .int 0, .null, .null, .null, .int 0])), (a0, .inl (t0, 8, .inl (fun _ => 0))), (a1, .inl (t1, 8, .inl (fun _ => 0))), (a2, .inl (t2, 8, .inl (fun _ => 0)))] := hD
  have hK : va_K D vwCl [(t0, .int), (t1, .byte), (t2, .int)] s := hK
  refine W.widen (k := 3) (n := 24) (Nat.le_of_ble_eq_true rfl) (Nat.le_of_ble_eq_true rfl) ?_
  refine va_putF (ci := 0) (v := .ref a2) (ty := .array .int) (C := RX0) (T := TX0) (N := 18) hx hb hts in_X0 tyX0 tyX0_ok nmX0 hown hK hP hD hS 0 rfl rfl 2 (by decide) (hts _ q27) (fun _ h9 => h9) rfl hin rfl (by decide +kernel) rfl rfl (Nat.le_of_ble_eq_true rfl) dX0_init_25 (fun H locs hP hD hS => ?_)
  have hP : va_P D vwCl [(o, .inr (0, [.ref a0, .ref a1, .ref a2, .null, .null, .null, .null, .null, .null, .int 0, .int 0, .int 0, .int 0, .int 0, .null, .null, .null, .int 0])), (a0, .inl (t0, 8, .inl (fun _ => 0))), (a1, .inl (t1, 8, .inl (fun _ => 0))), (a2, .inl (t2, 8, .inl (fun _ => 0)))] H := hP
  have hD : va_D A [(o, .inr (0, [.ref a0, .ref a1, .ref a2, .null, .null, .null, .null, .null, .null, .int 0, .int 0, .int 0, .int 0, .int 0, .null, .null, .null, .int 0])), (a0, .inl (t0, 8, .inl (fun _ => 0))), (a1, .inl (t1, 8, .inl (fun _ => 0))), (a2, .inl (t2, 8, .inl (fun _ => 0)))] := hD
  refine lv_aload_n hx hb dX0_init_28 rfl hl0 ?_
  refine lv_bipush (v := nI 24) hx hb dX0_init_29 (by decide) ?_
  refine va_newa (atype := .byte) (ty := .byte) (N' := 24) (a0 := (24, .inl (fun _ => 0))) hx hb (hts _ q81) rfl hK hP hD hS hA (fun _ => rfl) (by decide) (by decide) (by decide) (Nat.le_of_ble_eq_true rfl) (Nat.le_of_ble_eq_true rfl) dX0_init_31 (fun a3 t3 H hK hP hD hS => ?_)
  have hP : va_P D vwCl [(o, .inr (0, [.ref a0, .ref a1, .ref a2, .null, .null, .null, .null, .null, .null, .int 0, .int 0, .int 0, .int 0, .int 0, .null, .null, .null, .int 0])), (a0, .inl (t0, 8, .inl (fun _ => 0))), (a1, .inl (t1, 8, .inl (fun _ => 0))), (a2, .inl (t2, 8, .inl (fun _ => 0))), (a3, .inl (t3, 24, .inl (fun _ => 0)))] H := hP
  have hD : va_D A [(o, .inr (0, [.ref a0, .ref a1, .ref a2, .null, .null, .null, .null, .null, .null, .int 0, .int 0, .int 0, .int 0, .int 0, .null, .null, .null, .int 0])), (a0, .inl (t0, 8, .inl (fun _ => 0))), (a1, .inl (t1, 8, .inl (fun _ => 0))), (a2, .inl (t2, 8, .inl (fun _ => 0))), (a3, .inl (t3, 24, .inl (fun _ => 0)))] := hD
  have hK : va_K D vwCl [(t0, .int), (t1, .byte), (t2, .int), (t3, .byte)] s := hK
  refine W.widen (k := 4) (n := 48) (Nat.le_of_ble_eq_true rfl) (Nat.le_of_ble_eq_true rfl) ?_
  refine va_putF (ci := 0) (v := .ref a3) (ty := .array .byte) (C := RX0) (T := TX0) (N := 18) hx hb hts in_X0 tyX0 tyX0_ok nmX0 hown hK hP hD hS 0 rfl rfl 3 (by decide) (hts _ q28) (fun _ h9 => h9) rfl hin rfl (by decide +kernel) rfl rfl (Nat.le_of_ble_eq_true rfl) dX0_init_33 (fun H locs hP hD hS => ?_)
  have hP : va_P D vwCl [(o, .inr (0, [.ref a0, .ref a1, .ref a2, .ref a3, .null, .null, .null, .null, .null, .int 0, .int 0, .int 0, .int 0, .int 0, .null, .null, .null, .int 0])), (a0, .inl (t0, 8, .inl (fun _ => 0))), (a1, .inl (t1, 8, .inl (fun _ => 0))), (a2, .inl (t2, 8, .inl (fun _ => 0))), (a3, .inl (t3, 24, .inl (fun _ => 0)))] H := hP
  have hD : va_D A [(o, .inr (0, [.ref a0, .ref a1, .ref a2, .ref a3, .null, .null, .null, .null, .null, .int 0, .int 0, .int 0, .int 0, .int 0, .null, .null, .null, .int 0])), (a0, .inl (t0, 8, .inl (fun _ => 0))), (a1, .inl (t1, 8, .inl (fun _ => 0))), (a2, .inl (t2, 8, .inl (fun _ => 0))), (a3, .inl (t3, 24, .inl (fun _ => 0)))] := hD
  refine lv_aload_n hx hb dX0_init_36 rfl hl0 ?_
  refine lv_bipush (v := nI 24) hx hb dX0_init_37 (by decide) ?_
  refine va_newa (atype := .int) (ty := .int) (N' := 24) (a0 := (24, .inl (fun _ => 0))) hx hb (hts _ q80) rfl hK hP hD hS hA (fun _ => rfl) (by decide) (by decide) (by decide) (Nat.le_of_ble_eq_true rfl) (Nat.le_of_ble_eq_true rfl) dX0_init_39 (fun a4 t4 H hK hP hD hS => ?_)
  have hP : va_P D vwCl [(o, .inr (0, [.ref a0, .ref a1, .ref a2, .ref a3, .null, .null, .null, .null, .null, .int 0, .int 0, .int 0, .int 0, .int 0, .null, .null, .null, .int 0])), (a0, .inl (t0, 8, .inl (fun _ => 0))), (a1, .inl (t1, 8, .inl (fun _ => 0))), (a2, .inl (t2, 8, .inl (fun _ => 0))), (a3, .inl (t3, 24, .inl (fun _ => 0))), (a4, .inl (t4, 24, .inl (fun _ => 0)))] H := hP
  have hD : va_D A [(o, .inr (0, [.ref a0, .ref a1, .ref a2, .ref a3, .null, .null, .null, .null, .null, .int 0, .int 0, .int 0, .int 0, .int 0, .null, .null, .null, .int 0])), (a0, .inl (t0, 8, .inl (fun _ => 0))), (a1, .inl (t1, 8, .inl (fun _ => 0))), (a2, .inl (t2, 8, .inl (fun _ => 0))), (a3, .inl (t3, 24, .inl (fun _ => 0))), (a4, .inl (t4, 24, .inl (fun _ => 0)))] := hD
  have hK : va_K D vwCl [(t0, .int), (t1, .byte), (t2, .int), (t3, .byte), (t4, .int)] s := hK
  refine W.widen (k := 5) (n := 72) (Nat.le_of_ble_eq_true rfl) (Nat.le_of_ble_eq_true rfl) ?_
  refine va_putF (ci := 0) (v := .ref a4) (ty := .array .int) (C := RX0) (T := TX0) (N := 18) hx hb hts in_X0 tyX0 tyX0_ok nmX0 hown hK hP hD hS 0 rfl rfl 4 (by decide) (hts _ q29) (fun _ h9 => h9) rfl hin rfl (by decide +kernel) rfl rfl (Nat.le_of_ble_eq_true rfl) dX0_init_41 (fun H locs hP hD hS => ?_)
  have hP : va_P D vwCl [(o, .inr (0, [.ref a0, .ref a1, .ref a2, .ref a3, .ref a4, .null, .null, .null, .null, .int 0, .int 0, .int 0, .int 0, .int 0, .null, .null, .null, .int 0])), (a0, .inl (t0, 8, .inl (fun _ => 0))), (a1, .inl (t1, 8, .inl (fun _ => 0))), (a2, .inl (t2, 8, .inl (fun _ => 0))), (a3, .inl (t3, 24, .inl (fun _ => 0))), (a4, .inl (t4, 24, .inl (fun _ => 0)))] H := hP
  have hD : va_D A [(o, .inr (0, [.ref a0, .ref a1, .ref a2, .ref a3, .ref a4, .null, .null, .null, .null, .int 0, .int 0, .int 0, .int 0, .int 0, .null, .null, .null, .int 0])), (a0, .inl (t0, 8, .inl (fun _ => 0))), (a1, .inl (t1, 8, .inl (fun _ => 0))), (a2, .inl (t2, 8, .inl (fun _ => 0))), (a3, .inl (t3, 24, .inl (fun _ => 0))), (a4, .inl (t4, 24, .inl (fun _ => 0)))] := hD
  refine lv_aload_n hx hb dX0_init_44 rfl hl0 ?_
  refine lv_bipush (v := nI 24) hx hb dX0_init_45 (by decide) ?_
  refine va_newa (atype := .byte) (ty := .byte) (N' := 24) (a0 := (24, .inl (fun _ => 0))) hx hb (hts _ q81) rfl hK hP hD hS hA (fun _ => rfl) (by decide) (by decide) (by decide) (Nat.le_of_ble_eq_true rfl) (Nat.le_of_ble_eq_true rfl) dX0_init_47 (fun a5 t5 H hK hP hD hS => ?_)
  have hP : va_P D vwCl [(o, .inr (0, [.ref a0, .ref a1, .ref a2, .ref a3, .ref a4, .null, .null, .null, .null, .int 0, .int 0, .int 0, .int 0, .int 0, .null, .null, .null, .int 0])), (a0, .inl (t0, 8, .inl (fun _ => 0))), (a1, .inl (t1, 8, .inl (fun _ => 0))), (a2, .inl (t2, 8, .inl (fun _ => 0))), (a3, .inl (t3, 24, .inl (fun _ => 0))), (a4, .inl (t4, 24, .inl (fun _ => 0))), (a5, .inl (t5, 24, .inl (fun _ => 0)))] H := hP
  have hD : va_D A [(o, .inr (0, [.ref a0, .ref a1, .ref a2, .ref a3, .ref a4, .null, .null, .null, .null, .int 0, .int 0, .int 0, .int 0, .int 0, .null, .null, .null, .int 0])), (a0, .inl (t0, 8, .inl (fun _ => 0))), (a1, .inl (t1, 8, .inl (fun _ => 0))), (a2, .inl (t2, 8, .inl (fun _ => 0))), (a3, .inl (t3, 24, .inl (fun _ => 0))), (a4, .inl (t4, 24, .inl (fun _ => 0))), (a5, .inl (t5, 24, .inl (fun _ => 0)))] := hD
  have hK : va_K D vwCl [(t0, .int), (t1, .byte), (t2, .int), (t3, .byte), (t4, .int), (t5, .byte)] s := hK
  refine W.widen (k := 6) (n := 96) (Nat.le_of_ble_eq_true rfl) (Nat.le_of_ble_eq_true rfl) ?_
  refine va_putF (ci := 0) (v := .ref a5) (ty := .array .byte) (C := RX0) (T := TX0) (N := 18) hx hb hts in_X0 tyX0 tyX0_ok nmX0 hown hK hP hD hS 0 rfl rfl 5 (by decide) (hts _ q30) (fun _ h9 => h9) rfl hin rfl (by decide +kernel) rfl rfl (Nat.le_of_ble_eq_true rfl) dX0_init_49 (fun H locs hP hD hS => ?_)
  have hP : va_P D vwCl [(o, .inr (0, [.ref a0, .ref a1, .ref a2, .ref a3, .ref a4, .ref a5, .null, .null, .null, .int 0, .int 0, .int 0, .int 0, .int 0, .null, .null, .null, .int 0])), (a0, .inl (t0, 8, .inl (fun _ => 0))), (a1, .inl (t1, 8, .inl (fun _ => 0))), (a2, .inl (t2, 8, .inl (fun _ => 0))), (a3, .inl (t3, 24, .inl (fun _ => 0))), (a4, .inl (t4, 24, .inl (fun _ => 0))), (a5, .inl (t5, 24, .inl (fun _ => 0)))] H := hP
  have hD : va_D A [(o, .inr (0, [.ref a0, .ref a1, .ref a2, .ref a3, .ref a4, .ref a5, .null, .null, .null, .int 0, .int 0, .int 0, .int 0, .int 0, .null, .null, .null, .int 0])), (a0, .inl (t0, 8, .inl (fun _ => 0))), (a1, .inl (t1, 8, .inl (fun _ => 0))), (a2, .inl (t2, 8, .inl (fun _ => 0))), (a3, .inl (t3, 24, .inl (fun _ => 0))), (a4, .inl (t4, 24, .inl (fun _ => 0))), (a5, .inl (t5, 24, .inl (fun _ => 0)))] := hD
  refine lv_aload_n hx hb dX0_init_52 rfl hl0 ?_
  refine lv_bipush (v := nI 24) hx hb dX0_init_53 (by decide) ?_
  refine va_newa (atype := .byte) (ty := .byte) (N' := 24) (a0 := (24, .inl (fun _ => 0))) hx hb (hts _ q81) rfl hK hP hD hS hA (fun _ => rfl) (by decide) (by decide) (by decide) (Nat.le_of_ble_eq_true rfl) (Nat.le_of_ble_eq_true rfl) dX0_init_55 (fun a6 t6 H hK hP hD hS => ?_)
  have hP : va_P D vwCl [(o, .inr (0, [.ref a0, .ref a1, .ref a2, .ref a3, .ref a4, .ref a5, .null, .null, .null, .int 0, .int 0, .int 0, .int 0, .int 0, .null, .null, .null, .int 0])), (a0, .inl (t0, 8, .inl (fun _ => 0))), (a1, .inl (t1, 8, .inl (fun _ => 0))), (a2, .inl (t2, 8, .inl (fun _ => 0))), (a3, .inl (t3, 24, .inl (fun _ => 0))), (a4, .inl (t4, 24, .inl (fun _ => 0))), (a5, .inl (t5, 24, .inl (fun _ => 0))), (a6, .inl (t6, 24, .inl (fun _ => 0)))] H := hP
  have hD : va_D A [(o, .inr (0, [.ref a0, .ref a1, .ref a2, .ref a3, .ref a4, .ref a5, .null, .null, .null, .int 0, .int 0, .int 0, .int 0, .int 0, .null, .null, .null, .int 0])), (a0, .inl (t0, 8, .inl (fun _ => 0))), (a1, .inl (t1, 8, .inl (fun _ => 0))), (a2, .inl (t2, 8, .inl (fun _ => 0))), (a3, .inl (t3, 24, .inl (fun _ => 0))), (a4, .inl (t4, 24, .inl (fun _ => 0))), (a5, .inl (t5, 24, .inl (fun _ => 0))), (a6, .inl (t6, 24, .inl (fun _ => 0)))] := hD
  have hK : va_K D vwCl [(t0, .int), (t1, .byte), (t2, .int), (t3, .byte), (t4, .int), (t5, .byte), (t6, .byte)] s := hK
  refine W.widen (k := 7) (n := 120) (Nat.le_of_ble_eq_true rfl) (Nat.le_of_ble_eq_true rfl) ?_
  refine va_putF (ci := 0) (v := .ref a6) (ty := .array .byte) (C := RX0) (T := TX0) (N := 18) hx hb hts in_X0 tyX0 tyX0_ok nmX0 hown hK hP hD hS 0 rfl rfl 6 (by decide) (hts _ q31) (fun _ h9 => h9) rfl hin rfl (by decide +kernel) rfl rfl (Nat.le_of_ble_eq_true rfl) dX0_init_57 (fun H locs hP hD hS => ?_)
  have hP : va_P D vwCl [(o, .inr (0, [.ref a0, .ref a1, .ref a2, .ref a3, .ref a4, .ref a5, .ref a6, .null, .null, .int 0, .int 0, .int 0, .int 0, .int 0, .null, .null, .null, .int 0])), (a0, .inl (t0, 8, .inl (fun _ => 0))), (a1, .inl (t1, 8, .inl (fun _ => 0))), (a2, .inl (t2, 8, .inl (fun _ => 0))), (a3, .inl (t3, 24, .inl (fun _ => 0))), (a4, .inl (t4, 24, .inl (fun _ => 0))), (a5, .inl (t5, 24, .inl (fun _ => 0))), (a6, .inl (t6, 24, .inl (fun _ => 0)))] H := hP
  have hD : va_D A [(o, .inr (0, [.ref a0, .ref a1, .ref a2, .ref a3, .ref a4, .ref a5, .ref a6, .null, .null, .int 0, .int 0, .int 0, .int 0, .int 0, .null, .null, .null, .int 0])), (a0, .inl (t0, 8, .inl (fun _ => 0))), (a1, .inl (t1, 8, .inl (fun _ => 0))), (a2, .inl (t2, 8, .inl (fun _ => 0))), (a3, .inl (t3, 24, .inl (fun _ => 0))), (a4, .inl (t4, 24, .inl (fun _ => 0))), (a5, .inl (t5, 24, .inl (fun _ => 0))), (a6, .inl (t6, 24, .inl (fun _ => 0)))] := hD
  refine lv_aload_n hx hb dX0_init_60 rfl hl0 ?_
  refine lv_bipush (v := nI 24) hx hb dX0_init_61 (by decide) ?_
  refine va_newa (atype := .byte) (ty := .byte) (N' := 24) (a0 := (24, .inl (fun _ => 0))) hx hb (hts _ q81) rfl hK hP hD hS hA (fun _ => rfl) (by decide) (by decide) (by decide) (Nat.le_of_ble_eq_true rfl) (Nat.le_of_ble_eq_true rfl) dX0_init_63 (fun a7 t7 H hK hP hD hS => ?_)
  have hP : va_P D vwCl [(o, .inr (0, [.ref a0, .ref a1, .ref a2, .ref a3, .ref a4, .ref a5, .ref a6, .null, .null, .int 0, .int 0, .int 0, .int 0, .int 0, .null, .null, .null, .int 0])), (a0, .inl (t0, 8, .inl (fun _ => 0))), (a1, .inl (t1, 8, .inl (fun _ => 0))), (a2, .inl (t2, 8, .inl (fun _ => 0))), (a3, .inl (t3, 24, .inl (fun _ => 0))), (a4, .inl (t4, 24, .inl (fun _ => 0))), (a5, .inl (t5, 24, .inl (fun _ => 0))), (a6, .inl (t6, 24, .inl (fun _ => 0))), (a7, .inl (t7, 24, .inl (fun _ => 0)))] H := hP
  have hD : va_D A [(o, .inr (0, [.ref a0, .ref a1, .ref a2, .ref a3, .ref a4, .ref a5, .ref a6, .null, .null, .int 0, .int 0, .int 0, .int 0, .int 0, .null, .null, .null, .int 0])), (a0, .inl (t0, 8, .inl (fun _ => 0))), (a1, .inl (t1, 8, .inl (fun _ => 0))), (a2, .inl (t2, 8, .inl (fun _ => 0))), (a3, .inl (t3, 24, .inl (fun _ => 0))), (a4, .inl (t4, 24, .inl (fun _ => 0))), (a5, .inl (t5, 24, .inl (fun _ => 0))), (a6, .inl (t6, 24, .inl (fun _ => 0))), (a7, .inl (t7, 24, .inl (fun _ => 0)))] := hD
  have hK : va_K D vwCl [(t0, .int), (t1, .byte), (t2, .int), (t3, .byte), (t4, .int), (t5, .byte), (t6, .byte), (t7, .byte)] s := hK
  refine W.widen (k := 8) (n := 144) (Nat.le_of_ble_eq_true rfl) (Nat.le_of_ble_eq_true rfl) ?_
  refine va_putF (ci := 0) (v := .ref a7) (ty := .array .byte) (C := RX0) (T := TX0) (N := 18) hx hb hts in_X0 tyX0 tyX0_ok nmX0 hown hK hP hD hS 0 rfl rfl 7 (by decide) (hts _ q32) (fun _ h9 => h9) rfl hin rfl (by decide +kernel) rfl rfl (Nat.le_of_ble_eq_true rfl) dX0_init_65 (fun H locs hP hD hS => ?_)
  have hP : va_P D vwCl [(o, .inr (0, [.ref a0, .ref a1, .ref a2, .ref a3, .ref a4, .ref a5, .ref a6, .ref a7, .null, .int 0, .int 0, .int 0, .int 0, .int 0, .null, .null, .null, .int 0])), (a0, .inl (t0, 8, .inl (fun _ => 0))), (a1, .inl (t1, 8, .inl (fun _ => 0))), (a2, .inl (t2, 8, .inl (fun _ => 0))), (a3, .inl (t3, 24, .inl (fun _ => 0))), (a4, .inl (t4, 24, .inl (fun _ => 0))), (a5, .inl (t5, 24, .inl (fun _ => 0))), (a6, .inl (t6, 24, .inl (fun _ => 0))), (a7, .inl (t7, 24, .inl (fun _ => 0)))] H := hP
  have hD : va_D A [(o, .inr (0, [.ref a0, .ref a1, .ref a2, .ref a3, .ref a4, .ref a5, .ref a6, .ref a7, .null, .int 0, .int 0, .int 0, .int 0, .int 0, .null, .null, .null, .int 0])), (a0, .inl (t0, 8, .inl (fun _ => 0))), (a1, .inl (t1, 8, .inl (fun _ => 0))), (a2, .inl (t2, 8, .inl (fun _ => 0))), (a3, .inl (t3, 24, .inl (fun _ => 0))), (a4, .inl (t4, 24, .inl (fun _ => 0))), (a5, .inl (t5, 24, .inl (fun _ => 0))), (a6, .inl (t6, 24, .inl (fun _ => 0))), (a7, .inl (t7, 24, .inl (fun _ => 0)))] := hD
  refine lv_aload_n hx hb dX0_init_68 rfl hl0 ?_
  refine lv_bipush (v := nI 24) hx hb dX0_init_69 (by decide) ?_
  refine va_newa (atype := .byte) (ty := .byte) (N' := 24) (a0 := (24, .inl (fun _ => 0))) hx hb (hts _ q81) rfl hK hP hD hS hA (fun _ => rfl) (by decide) (by decide) (by decide) (Nat.le_of_ble_eq_true rfl) (Nat.le_of_ble_eq_true rfl) dX0_init_71 (fun a8 t8 H hK hP hD hS => ?_)
  have hP : va_P D vwCl [(o, .inr (0, [.ref a0, .ref a1, .ref a2, .ref a3, .ref a4, .ref a5, .ref a6, .ref a7, .null, .int 0, .int 0, .int 0, .int 0, .int 0, .null, .null, .null, .int 0])), (a0, .inl (t0, 8, .inl (fun _ => 0))), (a1, .inl (t1, 8, .inl (fun _ => 0))), (a2, .inl (t2, 8, .inl (fun _ => 0))), (a3, .inl (t3, 24, .inl (fun _ => 0))), (a4, .inl (t4, 24, .inl (fun _ => 0))), (a5, .inl (t5, 24, .inl (fun _ => 0))), (a6, .inl (t6, 24, .inl (fun _ => 0))), (a7, .inl (t7, 24, .inl (fun _ => 0))), (a8, .inl (t8, 24, .inl (fun _ => 0)))] H := hP
  have hD : va_D A [(o, .inr (0, [.ref a0, .ref a1, .ref a2, .ref a3, .ref a4, .ref a5, .ref a6, .ref a7, .null, .int 0, .int 0, .int 0, .int 0, .int 0, .null, .null, .null, .int 0])), (a0, .inl (t0, 8, .inl (fun _ => 0))), (a1, .inl (t1, 8, .inl (fun _ => 0))), (a2, .inl (t2, 8, .inl (fun _ => 0))), (a3, .inl (t3, 24, .inl (fun _ => 0))), (a4, .inl (t4, 24, .inl (fun _ => 0))), (a5, .inl (t5, 24, .inl (fun _ => 0))), (a6, .inl (t6, 24, .inl (fun _ => 0))), (a7, .inl (t7, 24, .inl (fun _ => 0))), (a8, .inl (t8, 24, .inl (fun _ => 0)))] := hD
  have hK : va_K D vwCl [(t0, .int), (t1, .byte), (t2, .int), (t3, .byte), (t4, .int), (t5, .byte), (t6, .byte), (t7, .byte), (t8, .byte)] s := hK
  refine W.widen (k := 9) (n := 168) (Nat.le_of_ble_eq_true rfl) (Nat.le_of_ble_eq_true rfl) ?_
  refine va_putF (ci := 0) (v := .ref a8) (ty := .array .byte) (C := RX0) (T := TX0) (N := 18) hx hb hts in_X0 tyX0 tyX0_ok nmX0 hown hK hP hD hS 0 rfl rfl 8 (by decide) (hts _ q33) (fun _ h9 => h9) rfl hin rfl (by decide +kernel) rfl rfl (Nat.le_of_ble_eq_true rfl) dX0_init_73 (fun H locs hP hD hS => ?_)
  have hP : va_P D vwCl [(o, .inr (0, [.ref a0, .ref a1, .ref a2, .ref a3, .ref a4, .ref a5, .ref a6, .ref a7, .ref a8, .int 0, .int 0, .int 0, .int 0, .int 0, .null, .null, .null, .int 0])), (a0, .inl (t0, 8, .inl (fun _ => 0))), (a1, .inl (t1, 8, .inl (fun _ => 0))), (a2, .inl (t2, 8, .inl (fun _ => 0))), (a3, .inl (t3, 24, .inl (fun _ => 0))), (a4, .inl (t4, 24, .inl (fun _ => 0))), (a5, .inl (t5, 24, .inl (fun _ => 0))), (a6, .inl (t6, 24, .inl (fun _ => 0))), (a7, .inl (t7, 24, .inl (fun _ => 0))), (a8, .inl (t8, 24, .inl (fun _ => 0)))] H := hP
  have hD : va_D A [(o, .inr (0, [.ref a0, .ref a1, .ref a2, .ref a3, .ref a4, .ref a5, .ref a6, .ref a7, .ref a8, .int 0, .int 0, .int 0, .int 0, .int 0, .null, .null, .null, .int 0])), (a0, .inl (t0, 8, .inl (fun _ => 0))), (a1, .inl (t1, 8, .inl (fun _ => 0))), (a2, .inl (t2, 8, .inl (fun _ => 0))), (a3, .inl (t3, 24, .inl (fun _ => 0))), (a4, .inl (t4, 24, .inl (fun _ => 0))), (a5, .inl (t5, 24, .inl (fun _ => 0))), (a6, .inl (t6, 24, .inl (fun _ => 0))), (a7, .inl (t7, 24, .inl (fun _ => 0))), (a8, .inl (t8, 24, .inl (fun _ => 0)))] := hD
  refine lv_aload_n hx hb dX0_init_76 rfl hl0 ?_
  refine lv_bipush (v := nI 32) hx hb dX0_init_77 (by decide) ?_
  refine va_newa (atype := .byte) (ty := .byte) (N' := 32) (a0 := (32, .inl (fun _ => 0))) hx hb (hts _ q81) rfl hK hP hD hS hA (fun _ => rfl) (by decide) (by decide) (by decide) (Nat.le_of_ble_eq_true rfl) (Nat.le_of_ble_eq_true rfl) dX0_init_79 (fun a14 t14 H hK hP hD hS => ?_)
  have hP : va_P D vwCl [(o, .inr (0, [.ref a0, .ref a1, .ref a2, .ref a3, .ref a4, .ref a5, .ref a6, .ref a7, .ref a8, .int 0, .int 0, .int 0, .int 0, .int 0, .null, .null, .null, .int 0])), (a0, .inl (t0, 8, .inl (fun _ => 0))), (a1, .inl (t1, 8, .inl (fun _ => 0))), (a2, .inl (t2, 8, .inl (fun _ => 0))), (a3, .inl (t3, 24, .inl (fun _ => 0))), (a4, .inl (t4, 24, .inl (fun _ => 0))), (a5, .inl (t5, 24, .inl (fun _ => 0))), (a6, .inl (t6, 24, .inl (fun _ => 0))), (a7, .inl (t7, 24, .inl (fun _ => 0))), (a8, .inl (t8, 24, .inl (fun _ => 0))), (a14, .inl (t14, 32, .inl (fun _ => 0)))] H := hP
  have hD : va_D A [(o, .inr (0, [.ref a0, .ref a1, .ref a2, .ref a3, .ref a4, .ref a5, .ref a6, .ref a7, .ref a8, .int 0, .int 0, .int 0, .int 0, .int 0, .null, .null, .null, .int 0])), (a0, .inl (t0, 8, .inl (fun _ => 0))), (a1, .inl (t1, 8, .inl (fun _ => 0))), (a2, .inl (t2, 8, .inl (fun _ => 0))), (a3, .inl (t3, 24, .inl (fun _ => 0))), (a4, .inl (t4, 24, .inl (fun _ => 0))), (a5, .inl (t5, 24, .inl (fun _ => 0))), (a6, .inl (t6, 24, .inl (fun _ => 0))), (a7, .inl (t7, 24, .inl (fun _ => 0))), (a8, .inl (t8, 24, .inl (fun _ => 0))), (a14, .inl (t14, 32, .inl (fun _ => 0)))] := hD
  have hK : va_K D vwCl [(t0, .int), (t1, .byte), (t2, .int), (t3, .byte), (t4, .int), (t5, .byte), (t6, .byte), (t7, .byte), (t8, .byte), (t14, .byte)] s := hK
  refine W.widen (k := 10) (n := 200) (Nat.le_of_ble_eq_true rfl) (Nat.le_of_ble_eq_true rfl) ?_
  refine va_putF (ci := 0) (v := .ref a14) (ty := .array .byte) (C := RX0) (T := TX0) (N := 18) hx hb hts in_X0 tyX0 tyX0_ok nmX0 hown hK hP hD hS 0 rfl rfl 14 (by decide) (hts _ q39) (fun _ h9 => h9) rfl hin rfl (by decide +kernel) rfl rfl (Nat.le_of_ble_eq_true rfl) dX0_init_81 (fun H locs hP hD hS => ?_)
  have hP : va_P D vwCl [(o, .inr (0, [.ref a0, .ref a1, .ref a2, .ref a3, .ref a4, .ref a5, .ref a6, .ref a7, .ref a8, .int 0, .int 0, .int 0, .int 0, .int 0, .ref a14, .null, .null, .int 0])), (a0, .inl (t0, 8, .inl (fun _ => 0))), (a1, .inl (t1, 8, .inl (fun _ => 0))), (a2, .inl (t2, 8, .inl (fun _ => 0))), (a3, .inl (t3, 24, .inl (fun _ => 0))), (a4, .inl (t4, 24, .inl (fun _ => 0))), (a5, .inl (t5, 24, .inl (fun _ => 0))), (a6, .inl (t6, 24, .inl (fun _ => 0))), (a7, .inl (t7, 24, .inl (fun _ => 0))), (a8, .inl (t8, 24, .inl (fun _ => 0))), (a14, .inl (t14, 32, .inl (fun _ => 0)))] H := hP
  have hD : va_D A [(o, .inr (0, [.ref a0, .ref a1, .ref a2, .ref a3, .ref a4, .ref a5, .ref a6, .ref a7, .ref a8, .int 0, .int 0, .int 0, .int 0, .int 0, .ref a14, .null, .null, .int 0])), (a0, .inl (t0, 8, .inl (fun _ => 0))), (a1, .inl (t1, 8, .inl (fun _ => 0))), (a2, .inl (t2, 8, .inl (fun _ => 0))), (a3, .inl (t3, 24, .inl (fun _ => 0))), (a4, .inl (t4, 24, .inl (fun _ => 0))), (a5, .inl (t5, 24, .inl (fun _ => 0))), (a6, .inl (t6, 24, .inl (fun _ => 0))), (a7, .inl (t7, 24, .inl (fun _ => 0))), (a8, .inl (t8, 24, .inl (fun _ => 0))), (a14, .inl (t14, 32, .inl (fun _ => 0)))] := hD
  refine lv_aload_n hx hb dX0_init_84 rfl hl0 ?_
  refine lv_bipush (v := nI 32) hx hb dX0_init_85 (by decide) ?_
  refine va_newa (atype := .int) (ty := .int) (N' := 32) (a0 := (32, .inl (fun _ => 0))) hx hb (hts _ q80) rfl hK hP hD hS hA (fun _ => rfl) (by decide) (by decide) (by decide) (Nat.le_of_ble_eq_true rfl) (Nat.le_of_ble_eq_true rfl) dX0_init_87 (fun a15 t15 H hK hP hD hS => ?_)
  have hP : va_P D vwCl [(o, .inr (0, [.ref a0, .ref a1, .ref a2, .ref a3, .ref a4, .ref a5, .ref a6, .ref a7, .ref a8, .int 0, .int 0, .int 0, .int 0, .int 0, .ref a14, .null, .null, .int 0])), (a0, .inl (t0, 8, .inl (fun _ => 0))), (a1, .inl (t1, 8, .inl (fun _ => 0))), (a2, .inl (t2, 8, .inl (fun _ => 0))), (a3, .inl (t3, 24, .inl (fun _ => 0))), (a4, .inl (t4, 24, .inl (fun _ => 0))), (a5, .inl (t5, 24, .inl (fun _ => 0))), (a6, .inl (t6, 24, .inl (fun _ => 0))), (a7, .inl (t7, 24, .inl (fun _ => 0))), (a8, .inl (t8, 24, .inl (fun _ => 0))), (a14, .inl (t14, 32, .inl (fun _ => 0))), (a15, .inl (t15, 32, .inl (fun _ => 0)))] H := hP
  have hD : va_D A [(o, .inr (0, [.ref a0, .ref a1, .ref a2, .ref a3, .ref a4, .ref a5, .ref a6, .ref a7, .ref a8, .int 0, .int 0, .int 0, .int 0, .int 0, .ref a14, .null, .null, .int 0])), (a0, .inl (t0, 8, .inl (fun _ => 0))), (a1, .inl (t1, 8, .inl (fun _ => 0))), (a2, .inl (t2, 8, .inl (fun _ => 0))), (a3, .inl (t3, 24, .inl (fun _ => 0))), (a4, .inl (t4, 24, .inl (fun _ => 0))), (a5, .inl (t5, 24, .inl (fun _ => 0))), (a6, .inl (t6, 24, .inl (fun _ => 0))), (a7, .inl (t7, 24, .inl (fun _ => 0))), (a8, .inl (t8, 24, .inl (fun _ => 0))), (a14, .inl (t14, 32, .inl (fun _ => 0))), (a15, .inl (t15, 32, .inl (fun _ => 0)))] := hD
  have hK : va_K D vwCl [(t0, .int), (t1, .byte), (t2, .int), (t3, .byte), (t4, .int), (t5, .byte), (t6, .byte), (t7, .byte), (t8, .byte), (t14, .byte), (t15, .int)] s := hK
  refine W.widen (k := 11) (n := 232) (Nat.le_of_ble_eq_true rfl) (Nat.le_of_ble_eq_true rfl) ?_
  refine va_putF (ci := 0) (v := .ref a15) (ty := .array .int) (C := RX0) (T := TX0) (N := 18) hx hb hts in_X0 tyX0 tyX0_ok nmX0 hown hK hP hD hS 0 rfl rfl 15 (by decide) (hts _ q40) (fun _ h9 => h9) rfl hin rfl (by decide +kernel) rfl rfl (Nat.le_of_ble_eq_true rfl) dX0_init_89 (fun H locs hP hD hS => ?_)
  have hP : va_P D vwCl [(o, .inr (0, [.ref a0, .ref a1, .ref a2, .ref a3, .ref a4, .ref a5, .ref a6, .ref a7, .ref a8, .int 0, .int 0, .int 0, .int 0, .int 0, .ref a14, .ref a15, .null, .int 0])), (a0, .inl (t0, 8, .inl (fun _ => 0))), (a1, .inl (t1, 8, .inl (fun _ => 0))), (a2, .inl (t2, 8, .inl (fun _ => 0))), (a3, .inl (t3, 24, .inl (fun _ => 0))), (a4, .inl (t4, 24, .inl (fun _ => 0))), (a5, .inl (t5, 24, .inl (fun _ => 0))), (a6, .inl (t6, 24, .inl (fun _ => 0))), (a7, .inl (t7, 24, .inl (fun _ => 0))), (a8, .inl (t8, 24, .inl (fun _ => 0))), (a14, .inl (t14, 32, .inl (fun _ => 0))), (a15, .inl (t15, 32, .inl (fun _ => 0)))] H := hP
  have hD : va_D A [(o, .inr (0, [.ref a0, .ref a1, .ref a2, .ref a3, .ref a4, .ref a5, .ref a6, .ref a7, .ref a8, .int 0, .int 0, .int 0, .int 0, .int 0, .ref a14, .ref a15, .null, .int 0])), (a0, .inl (t0, 8, .inl (fun _ => 0))), (a1, .inl (t1, 8, .inl (fun _ => 0))), (a2, .inl (t2, 8, .inl (fun _ => 0))), (a3, .inl (t3, 24, .inl (fun _ => 0))), (a4, .inl (t4, 24, .inl (fun _ => 0))), (a5, .inl (t5, 24, .inl (fun _ => 0))), (a6, .inl (t6, 24, .inl (fun _ => 0))), (a7, .inl (t7, 24, .inl (fun _ => 0))), (a8, .inl (t8, 24, .inl (fun _ => 0))), (a14, .inl (t14, 32, .inl (fun _ => 0))), (a15, .inl (t15, 32, .inl (fun _ => 0)))] := hD
  refine lv_aload_n hx hb dX0_init_92 rfl hl0 ?_
  refine lv_iconst (v := nI 4) hx hb dX0_init_93 (by decide) ?_
  refine va_newa (atype := .byte) (ty := .byte) (N' := 4) (a0 := (4, .inl (fun _ => 0))) hx hb (hts _ q81) rfl hK hP hD hS hA (fun _ => rfl) (by decide) (by decide) (by decide) (Nat.le_of_ble_eq_true rfl) (Nat.le_of_ble_eq_true rfl) dX0_init_94 (fun a16 t16 H hK hP hD hS => ?_)
  have hP : va_P D vwCl [(o, .inr (0, [.ref a0, .ref a1, .ref a2, .ref a3, .ref a4, .ref a5, .ref a6, .ref a7, .ref a8, .int 0, .int 0, .int 0, .int 0, .int 0, .ref a14, .ref a15, .null, .int 0])), (a0, .inl (t0, 8, .inl (fun _ => 0))), (a1, .inl (t1, 8, .inl (fun _ => 0))), (a2, .inl (t2, 8, .inl (fun _ => 0))), (a3, .inl (t3, 24, .inl (fun _ => 0))), (a4, .inl (t4, 24, .inl (fun _ => 0))), (a5, .inl (t5, 24, .inl (fun _ => 0))), (a6, .inl (t6, 24, .inl (fun _ => 0))), (a7, .inl (t7, 24, .inl (fun _ => 0))), (a8, .inl (t8, 24, .inl (fun _ => 0))), (a14, .inl (t14, 32, .inl (fun _ => 0))), (a15, .inl (t15, 32, .inl (fun _ => 0))), (a16, .inl (t16, 4, .inl (fun _ => 0)))] H := hP
  have hD : va_D A [(o, .inr (0, [.ref a0, .ref a1, .ref a2, .ref a3, .ref a4, .ref a5, .ref a6, .ref a7, .ref a8, .int 0, .int 0, .int 0, .int 0, .int 0, .ref a14, .ref a15, .null, .int 0])), (a0, .inl (t0, 8, .inl (fun _ => 0))), (a1, .inl (t1, 8, .inl (fun _ => 0))), (a2, .inl (t2, 8, .inl (fun _ => 0))), (a3, .inl (t3, 24, .inl (fun _ => 0))), (a4, .inl (t4, 24, .inl (fun _ => 0))), (a5, .inl (t5, 24, .inl (fun _ => 0))), (a6, .inl (t6, 24, .inl (fun _ => 0))), (a7, .inl (t7, 24, .inl (fun _ => 0))), (a8, .inl (t8, 24, .inl (fun _ => 0))), (a14, .inl (t14, 32, .inl (fun _ => 0))), (a15, .inl (t15, 32, .inl (fun _ => 0))), (a16, .inl (t16, 4, .inl (fun _ => 0)))] := hD
  have hK : va_K D vwCl [(t0, .int), (t1, .byte), (t2, .int), (t3, .byte), (t4, .int), (t5, .byte), (t6, .byte), (t7, .byte), (t8, .byte), (t14, .byte), (t15, .int), (t16, .byte)] s := hK
  refine W.widen (k := 12) (n := 236) (Nat.le_of_ble_eq_true rfl) (Nat.le_of_ble_eq_true rfl) ?_
  refine va_putF (ci := 0) (v := .ref a16) (ty := .array .byte) (C := RX0) (T := TX0) (N := 18) hx hb hts in_X0 tyX0 tyX0_ok nmX0 hown hK hP hD hS 0 rfl rfl 16 (by decide) (hts _ q41) (fun _ h9 => h9) rfl hin rfl (by decide +kernel) rfl rfl (Nat.le_of_ble_eq_true rfl) dX0_init_96 (fun H locs hP hD hS => ?_)
  have hP : va_P D vwCl [(o, .inr (0, [.ref a0, .ref a1, .ref a2, .ref a3, .ref a4, .ref a5, .ref a6, .ref a7, .ref a8, .int 0, .int 0, .int 0, .int 0, .int 0, .ref a14, .ref a15, .ref a16, .int 0])), (a0, .inl (t0, 8, .inl (fun _ => 0))), (a1, .inl (t1, 8, .inl (fun _ => 0))), (a2, .inl (t2, 8, .inl (fun _ => 0))), (a3, .inl (t3, 24, .inl (fun _ => 0))), (a4, .inl (t4, 24, .inl (fun _ => 0))), (a5, .inl (t5, 24, .inl (fun _ => 0))), (a6, .inl (t6, 24, .inl (fun _ => 0))), (a7, .inl (t7, 24, .inl (fun _ => 0))), (a8, .inl (t8, 24, .inl (fun _ => 0))), (a14, .inl (t14, 32, .inl (fun _ => 0))), (a15, .inl (t15, 32, .inl (fun _ => 0))), (a16, .inl (t16, 4, .inl (fun _ => 0)))] H := hP
  have hD : va_D A [(o, .inr (0, [.ref a0, .ref a1, .ref a2, .ref a3, .ref a4, .ref a5, .ref a6, .ref a7, .ref a8, .int 0, .int 0, .int 0, .int 0, .int 0, .ref a14, .ref a15, .ref a16, .int 0])), (a0, .inl (t0, 8, .inl (fun _ => 0))), (a1, .inl (t1, 8, .inl (fun _ => 0))), (a2, .inl (t2, 8, .inl (fun _ => 0))), (a3, .inl (t3, 24, .inl (fun _ => 0))), (a4, .inl (t4, 24, .inl (fun _ => 0))), (a5, .inl (t5, 24, .inl (fun _ => 0))), (a6, .inl (t6, 24, .inl (fun _ => 0))), (a7, .inl (t7, 24, .inl (fun _ => 0))), (a8, .inl (t8, 24, .inl (fun _ => 0))), (a14, .inl (t14, 32, .inl (fun _ => 0))), (a15, .inl (t15, 32, .inl (fun _ => 0))), (a16, .inl (t16, 4, .inl (fun _ => 0)))] := hD
  obtain ⟨q, hq⟩ : ∃ q : Nat → Nat, q = (fun k => match k with | 0 => a0 | 1 => a1 | 2 => a2 | 3 => a3 | 4 => a4 | 5 => a5 | 6 => a6 | 7 => a7 | 8 => a8 | 14 => a14 | 15 => a15 | _ => a16) := ⟨_, rfl⟩
  obtain ⟨tt, htt⟩ : ∃ tt : Nat → ClassId, tt = (fun k => match k with | 0 => t0 | 1 => t1 | 2 => t2 | 3 => t3 | 4 => t4 | 5 => t5 | 6 => t6 | 7 => t7 | 8 => t8 | 14 => t14 | 15 => t15 | _ => t16) := ⟨_, rfl⟩
  have hP : va_P D vwCl (XW o q tt (fun _ _ => 0)) H := by rw [hq, htt]; exact hP
  have hD : va_D A (XW o q tt (fun _ _ => 0)) := by rw [hq, htt]; exact hD
  have hK : va_K D vwCl (XK tt) s := by rw [htt]; exact hK
  have C : Cx p s m [Value.ref o].toArray c D A cX0_init 2 RX0 (XK tt) := ⟨hx, hb, hml, hown, hts, hK, hA⟩
  have RT : ∀ {pc : Nat} {L : List (Option Value)}, decode cX0_init pc = .ok (.return_, 1) → G p l e rIX s m [Value.ref o].toArray below meth c D A 2 12 236 (MQ below (va_Qv (fun _ : (Nat → Nat) × (Nat → ClassId) => True) (fun z t => WB D (XK z.2) (XW o z.1 z.2) A u0X t) A) [Value.ref o].toArray s 12 236 A) (XW o q tt u0X) pc L [] := by
    intro pc L hdg H locs ls hP hD hS hl
    exact W.vret hx hb hr (fun t ht hW => ⟨⟨(q, tt), rfl, trivial, by rw [ht]; exact hP, va_K.moved hW.alike hK, hD⟩, hS.F ht⟩) hS.2.2 hdg hlocks
  suffices main : G p l e rIX s m [Value.ref o].toArray below meth c D A 2 12 236 (MQ below (va_Qv (fun _ : (Nat → Nat) × (Nat → ClassId) => True) (fun z t => WB D (XK z.2) (XW o z.1 z.2) A u0X t) A) [Value.ref o].toArray s 12 236 A) (XW o q tt (fun _ _ => 0)) 99 [some (.ref o), none] [] from main H _ ls hP hD hS hl
  clear hP hD hS hl hl0
  generalize (MQ below (va_Qv (fun _ : (Nat → Nat) × (Nat → ClassId) => True) (fun z t => WB D (XK z.2) (XW o z.1 z.2) A u0X t) A) [Value.ref o].toArray s 12 236 A) = Q at RT ⊢
  have loop2 : ∀ (n r : Nat) (u3 : Mem), n + r = 4 → u0X = iX2 n r u3 → G p l e rIX s m [Value.ref o].toArray below meth c D A 2 12 236 Q (XW o q tt (u3)) 132 [some (.ref o), some (.int (nI r))] [] := by
    intro n
    induction n with
    | zero =>
      intro r u3 hr he
      refine g_iload_n C dX0_init_132 rfl ?_
      refine g_iconst C (nI 4) dX0_init_133 (by decide) ?_
      refine g_icmp_ge C 150 dX0_init_134 (by decide) (fun h => ?_) (fun h => ?_)
      · rw [show u3 = u0X from he.symm]
        exact RT dX0_init_150
      · exact absurd (nI_le (by omega) (by omega)) h
    | succ n ih =>
      intro r u3 hr he
      have hr8 : r < 4 := by omega
      unfold iX2 at he
      refine g_iload_n C dX0_init_132 rfl ?_
      refine g_iconst C (nI 4) dX0_init_133 (by decide) ?_
      refine g_icmp_ge C 150 dX0_init_134 (by decide) (fun h => ?_) (fun h => ?_)
      · exact absurd h (nI_ge (by omega) (by omega))
      · refine g_aload_n C dX0_init_137 rfl ?_
        refine xg_16 C dX0_init_138 ?_
        refine g_iload_n C dX0_init_141 rfl ?_
        refine g_iconst C (-1) dX0_init_142 (by decide) ?_
        refine xs_16 C (r) (rfl) (hr8) dX0_init_143 ?_
        refine g_iinc C (nI (r + 1)) dX0_init_144 rfl (inc1 r) (by decide) ?_
        refine g_goto C 132 dX0_init_147 (by decide) ?_
        exact ih (r + 1) _ (by omega) he
  have J130 : ∀ (u3 : Mem) (o1 : Option Value), u0X = iX2 4 0 u3 → G p l e rIX s m [Value.ref o].toArray below meth c D A 2 12 236 Q (XW o q tt (u3)) 130 [some (.ref o), o1] [] := by
    intro u3 o1 he
    refine g_iconst C (0) dX0_init_130 (by decide) ?_
    refine g_istore_n C dX0_init_131 (by decide) ?_
    exact loop2 4 0 u3 rfl he
  have loop1 : ∀ (n r : Nat) (u3 : Mem), n + r = 8 → u0X = iX2 4 0 (iX1 n r u3) → G p l e rIX s m [Value.ref o].toArray below meth c D A 2 12 236 Q (XW o q tt (u3)) 111 [some (.ref o), some (.int (nI r))] [] := by
    intro n
    induction n with
    | zero =>
      intro r u3 hr he
      refine g_iload_n C dX0_init_111 rfl ?_
      refine g_bipush C (nI 8) dX0_init_112 (by decide) ?_
      refine g_icmp_ge C 130 dX0_init_114 (by decide) (fun h => ?_) (fun h => ?_)
      · exact J130 u3 _ he
      · exact absurd (nI_le (by omega) (by omega)) h
    | succ n ih =>
      intro r u3 hr he
      have hr8 : r < 8 := by omega
      unfold iX1 at he
      refine g_iload_n C dX0_init_111 rfl ?_
      refine g_bipush C (nI 8) dX0_init_112 (by decide) ?_
      refine g_icmp_ge C 130 dX0_init_114 (by decide) (fun h => ?_) (fun h => ?_)
      · exact absurd h (nI_ge (by omega) (by omega))
      · refine g_aload_n C dX0_init_117 rfl ?_
        refine xg_1 C dX0_init_118 ?_
        refine g_iload_n C dX0_init_121 rfl ?_
        refine g_iconst C (-1) dX0_init_122 (by decide) ?_
        refine xs_1 C (r) (rfl) (hr8) dX0_init_123 ?_
        refine g_iinc C (nI (r + 1)) dX0_init_124 rfl (inc1 r) (by decide) ?_
        refine g_goto C 111 dX0_init_127 (by decide) ?_
        exact ih (r + 1) _ (by omega) he
  refine g_aload_n C dX0_init_99 rfl ?_
  refine g_iconst C (-1) dX0_init_100 (by decide) ?_
  refine xp_10 C dX0_init_101 ?_
  refine g_aload_n C dX0_init_104 rfl ?_
  refine g_iconst C (-1) dX0_init_105 (by decide) ?_
  refine xp_11 C dX0_init_106 ?_
  refine g_iconst C (0) dX0_init_109 (by decide) ?_
  refine g_istore_n C dX0_init_110 (by decide) ?_
  exact loop1 8 0 _ rfl rfl
abbrev rIM : Room := { frames := 1, cells := 9, slots := 3096, locals := 30 }
abbrev f0M : List Value := [.int 0, .null, .null, .null, .null, .null, .null, .int 0, .null, .null, .null]
def iM1 : Nat → Nat → Mem → Mem
  | 0, _, u => u
  | n + 1, r, u => iM1 n (r + 1) (pk u 9 r (-4))
def u0M : Mem := iM1 8 0 (fun _ _ => 0)
set_option maxHeartbeats 1000000 in
set_option maxRecDepth 100000 in
theorem mM_init {D : va_G} {o : Nat} : ∀ (l : Launch) (sz : Nat), Met l yX1_init (ws_ yX1_init cX1_init 2 none) rIM (va_Pc [.ref o] (Wpre D [] [(o, .inr (1, f0M))] sz)) (va_Qv (fun _ : (Nat → Nat) × (Nat → ClassId) => True) (fun z t => WB D (MK z.2) (MW o z.1 z.2) (va_A [(o, .inr (1, f0M))] sz) u0M t) (va_A [(o, .inr (1, f0M))] sz)) 9 3096 (va_A [(o, .inr (1, f0M))] sz) := by
  intro l sz
  refine Met.ofW (cc := cX1_init) (maxL := 2) (ret := none) (by decide) rfl ?_
  intro p e s m args below meth c s₁ B hml hv
  obtain ⟨rfl, hsz, hP, hK, hD0⟩ := hv
  have hx := B.exec
  have hb := B.bytes
  have hr := B.returns
  have hts := atoms_spec (ws := ws_ yX1_init cX1_init 2 none) B.pre
  have hts : ∀ w ∈ lw_all, w.before _ s = true := fun w h => hts w (List.mem_cons_of_mem _ h)
  have hown : s.vm.findClass RX1 = some m.cls := findClass_of_methodNamed B.named
  have hlocks := B.notSynchronized
  have hin : meth.name = "<init>" := (name_of_methodNamed B.named B.method).1
  subst hsz
  have hD := hD0.self (sz := s.heap.size)
  generalize hAe : va_A [(o, .inr (1, f0M))] s.heap.size = A at hD ⊢
  have hA : ∀ q : Nat, s.heap.size ≤ q → A q := fun q h => by rw [← hAe]; exact Or.inr h
  have hS : va_S A s.heap s.heap [] := va_S.rf
  have hl := lo_entry (vs := [.ref o]) (nL := 2) (k := 1) (Nat.le_of_ble_eq_true rfl) rfl (List.forall_mem_cons.mpr ⟨rfl, fun _ h => absurd h List.not_mem_nil⟩)
  rw [lg_entry_eq]
  generalize (lg_sl ([.ref o]) ++ List.replicate (2 - (lg_sl ([.ref o])).length) Slot.unset).toArray = ls at hl ⊢
  have hl0 : ls[0]? = some (.val (.ref o)) := (hl.2.2 0 (.ref o) rfl).1
  refine lv_aload_n hx hb dX1_init_0 rfl hl0 ?_
  refine W.objInit hx hb hown (hts _ q178) (hts _ q23) (hts _ q24) rfl (by rw [hml]; exact hl.1) rfl dX1_init_1 (Nat.le_of_ble_eq_true rfl) (Nat.le_of_ble_eq_true rfl) ?_
  refine W.eq (g2 := F0 m 4 ls []) rfl ?_
  refine lv_aload_n hx hb dX1_init_4 rfl hl0 ?_
  refine lv_sipush (v := nI 512) hx hb dX1_init_5 (by decide) ?_
  refine va_newa (atype := .int) (ty := .int) (N' := 512) (a0 := (512, .inl (fun _ => 0))) hx hb (hts _ q80) rfl hK hP hD hS hA (fun _ => rfl) (by decide) (by decide) (by decide) (Nat.le_of_ble_eq_true rfl) (Nat.le_of_ble_eq_true rfl) dX1_init_8 (fun a1 t1 H hK hP hD hS => ?_)
  have hP : va_P D vwCl [(o, .inr (1, [.int 0, .null, .null, .null, .null, .null, .null, .int 0, .null, .null, .null])), (a1, .inl (t1, 512, .inl (fun _ => 0)))] H := hP
  have hD : va_D A [(o, .inr (1, [.int 0, .null, .null, .null, .null, .null, .null, .int 0, .null, .null, .null])), (a1, .inl (t1, 512, .inl (fun _ => 0)))] := hD
  have hK : va_K D vwCl [(t1, .int)] s := hK
  refine W.widen (k := 1) (n := 512) (Nat.le_of_ble_eq_true rfl) (Nat.le_of_ble_eq_true rfl) ?_
  refine va_put (ci := 1) (v := .ref a1) (ty := .array .int) (C := RX1) (T := TX1) (N := 11) hx hb hts in_X1 tyX1 tyX1_ok nmX1 hown hK hP hD hS 0 rfl rfl 1 (by decide) (hts _ q180) (fun _ h9 => h9) rfl (by decide +kernel) rfl rfl (Nat.le_of_ble_eq_true rfl) dX1_init_10 (fun H locs hP hD hS => ?_)
  have hP : va_P D vwCl [(o, .inr (1, [.int 0, .ref a1, .null, .null, .null, .null, .null, .int 0, .null, .null, .null])), (a1, .inl (t1, 512, .inl (fun _ => 0)))] H := hP
  have hD : va_D A [(o, .inr (1, [.int 0, .ref a1, .null, .null, .null, .null, .null, .int 0, .null, .null, .null])), (a1, .inl (t1, 512, .inl (fun _ => 0)))] := hD
  refine lv_aload_n hx hb dX1_init_13 rfl hl0 ?_
  refine lv_sipush (v := nI 512) hx hb dX1_init_14 (by decide) ?_
  refine va_newa (atype := .int) (ty := .int) (N' := 512) (a0 := (512, .inl (fun _ => 0))) hx hb (hts _ q80) rfl hK hP hD hS hA (fun _ => rfl) (by decide) (by decide) (by decide) (Nat.le_of_ble_eq_true rfl) (Nat.le_of_ble_eq_true rfl) dX1_init_17 (fun a2 t2 H hK hP hD hS => ?_)
  have hP : va_P D vwCl [(o, .inr (1, [.int 0, .ref a1, .null, .null, .null, .null, .null, .int 0, .null, .null, .null])), (a1, .inl (t1, 512, .inl (fun _ => 0))), (a2, .inl (t2, 512, .inl (fun _ => 0)))] H := hP
  have hD : va_D A [(o, .inr (1, [.int 0, .ref a1, .null, .null, .null, .null, .null, .int 0, .null, .null, .null])), (a1, .inl (t1, 512, .inl (fun _ => 0))), (a2, .inl (t2, 512, .inl (fun _ => 0)))] := hD
  have hK : va_K D vwCl [(t1, .int), (t2, .int)] s := hK
  refine W.widen (k := 2) (n := 1024) (Nat.le_of_ble_eq_true rfl) (Nat.le_of_ble_eq_true rfl) ?_
  refine va_put (ci := 1) (v := .ref a2) (ty := .array .int) (C := RX1) (T := TX1) (N := 11) hx hb hts in_X1 tyX1 tyX1_ok nmX1 hown hK hP hD hS 0 rfl rfl 2 (by decide) (hts _ q181) (fun _ h9 => h9) rfl (by decide +kernel) rfl rfl (Nat.le_of_ble_eq_true rfl) dX1_init_19 (fun H locs hP hD hS => ?_)
  have hP : va_P D vwCl [(o, .inr (1, [.int 0, .ref a1, .ref a2, .null, .null, .null, .null, .int 0, .null, .null, .null])), (a1, .inl (t1, 512, .inl (fun _ => 0))), (a2, .inl (t2, 512, .inl (fun _ => 0)))] H := hP
  have hD : va_D A [(o, .inr (1, [.int 0, .ref a1, .ref a2, .null, .null, .null, .null, .int 0, .null, .null, .null])), (a1, .inl (t1, 512, .inl (fun _ => 0))), (a2, .inl (t2, 512, .inl (fun _ => 0)))] := hD
  refine lv_aload_n hx hb dX1_init_22 rfl hl0 ?_
  refine lv_sipush (v := nI 512) hx hb dX1_init_23 (by decide) ?_
  refine va_newa (atype := .int) (ty := .int) (N' := 512) (a0 := (512, .inl (fun _ => 0))) hx hb (hts _ q80) rfl hK hP hD hS hA (fun _ => rfl) (by decide) (by decide) (by decide) (Nat.le_of_ble_eq_true rfl) (Nat.le_of_ble_eq_true rfl) dX1_init_26 (fun a3 t3 H hK hP hD hS => ?_)
  have hP : va_P D vwCl [(o, .inr (1, [.int 0, .ref a1, .ref a2, .null, .null, .null, .null, .int 0, .null, .null, .null])), (a1, .inl (t1, 512, .inl (fun _ => 0))), (a2, .inl (t2, 512, .inl (fun _ => 0))), (a3, .inl (t3, 512, .inl (fun _ => 0)))] H := hP
  have hD : va_D A [(o, .inr (1, [.int 0, .ref a1, .ref a2, .null, .null, .null, .null, .int 0, .null, .null, .null])), (a1, .inl (t1, 512, .inl (fun _ => 0))), (a2, .inl (t2, 512, .inl (fun _ => 0))), (a3, .inl (t3, 512, .inl (fun _ => 0)))] := hD
  have hK : va_K D vwCl [(t1, .int), (t2, .int), (t3, .int)] s := hK
  refine W.widen (k := 3) (n := 1536) (Nat.le_of_ble_eq_true rfl) (Nat.le_of_ble_eq_true rfl) ?_
  refine va_put (ci := 1) (v := .ref a3) (ty := .array .int) (C := RX1) (T := TX1) (N := 11) hx hb hts in_X1 tyX1 tyX1_ok nmX1 hown hK hP hD hS 0 rfl rfl 3 (by decide) (hts _ q182) (fun _ h9 => h9) rfl (by decide +kernel) rfl rfl (Nat.le_of_ble_eq_true rfl) dX1_init_28 (fun H locs hP hD hS => ?_)
  have hP : va_P D vwCl [(o, .inr (1, [.int 0, .ref a1, .ref a2, .ref a3, .null, .null, .null, .int 0, .null, .null, .null])), (a1, .inl (t1, 512, .inl (fun _ => 0))), (a2, .inl (t2, 512, .inl (fun _ => 0))), (a3, .inl (t3, 512, .inl (fun _ => 0)))] H := hP
  have hD : va_D A [(o, .inr (1, [.int 0, .ref a1, .ref a2, .ref a3, .null, .null, .null, .int 0, .null, .null, .null])), (a1, .inl (t1, 512, .inl (fun _ => 0))), (a2, .inl (t2, 512, .inl (fun _ => 0))), (a3, .inl (t3, 512, .inl (fun _ => 0)))] := hD
  refine lv_aload_n hx hb dX1_init_31 rfl hl0 ?_
  refine lv_sipush (v := nI 512) hx hb dX1_init_32 (by decide) ?_
  refine va_newa (atype := .int) (ty := .int) (N' := 512) (a0 := (512, .inl (fun _ => 0))) hx hb (hts _ q80) rfl hK hP hD hS hA (fun _ => rfl) (by decide) (by decide) (by decide) (Nat.le_of_ble_eq_true rfl) (Nat.le_of_ble_eq_true rfl) dX1_init_35 (fun a4 t4 H hK hP hD hS => ?_)
  have hP : va_P D vwCl [(o, .inr (1, [.int 0, .ref a1, .ref a2, .ref a3, .null, .null, .null, .int 0, .null, .null, .null])), (a1, .inl (t1, 512, .inl (fun _ => 0))), (a2, .inl (t2, 512, .inl (fun _ => 0))), (a3, .inl (t3, 512, .inl (fun _ => 0))), (a4, .inl (t4, 512, .inl (fun _ => 0)))] H := hP
  have hD : va_D A [(o, .inr (1, [.int 0, .ref a1, .ref a2, .ref a3, .null, .null, .null, .int 0, .null, .null, .null])), (a1, .inl (t1, 512, .inl (fun _ => 0))), (a2, .inl (t2, 512, .inl (fun _ => 0))), (a3, .inl (t3, 512, .inl (fun _ => 0))), (a4, .inl (t4, 512, .inl (fun _ => 0)))] := hD
  have hK : va_K D vwCl [(t1, .int), (t2, .int), (t3, .int), (t4, .int)] s := hK
  refine W.widen (k := 4) (n := 2048) (Nat.le_of_ble_eq_true rfl) (Nat.le_of_ble_eq_true rfl) ?_
  refine va_put (ci := 1) (v := .ref a4) (ty := .array .int) (C := RX1) (T := TX1) (N := 11) hx hb hts in_X1 tyX1 tyX1_ok nmX1 hown hK hP hD hS 0 rfl rfl 4 (by decide) (hts _ q183) (fun _ h9 => h9) rfl (by decide +kernel) rfl rfl (Nat.le_of_ble_eq_true rfl) dX1_init_37 (fun H locs hP hD hS => ?_)
  have hP : va_P D vwCl [(o, .inr (1, [.int 0, .ref a1, .ref a2, .ref a3, .ref a4, .null, .null, .int 0, .null, .null, .null])), (a1, .inl (t1, 512, .inl (fun _ => 0))), (a2, .inl (t2, 512, .inl (fun _ => 0))), (a3, .inl (t3, 512, .inl (fun _ => 0))), (a4, .inl (t4, 512, .inl (fun _ => 0)))] H := hP
  have hD : va_D A [(o, .inr (1, [.int 0, .ref a1, .ref a2, .ref a3, .ref a4, .null, .null, .int 0, .null, .null, .null])), (a1, .inl (t1, 512, .inl (fun _ => 0))), (a2, .inl (t2, 512, .inl (fun _ => 0))), (a3, .inl (t3, 512, .inl (fun _ => 0))), (a4, .inl (t4, 512, .inl (fun _ => 0)))] := hD
  refine lv_aload_n hx hb dX1_init_40 rfl hl0 ?_
  refine lv_sipush (v := nI 512) hx hb dX1_init_41 (by decide) ?_
  refine va_newa (atype := .int) (ty := .int) (N' := 512) (a0 := (512, .inl (fun _ => 0))) hx hb (hts _ q80) rfl hK hP hD hS hA (fun _ => rfl) (by decide) (by decide) (by decide) (Nat.le_of_ble_eq_true rfl) (Nat.le_of_ble_eq_true rfl) dX1_init_44 (fun a5 t5 H hK hP hD hS => ?_)
  have hP : va_P D vwCl [(o, .inr (1, [.int 0, .ref a1, .ref a2, .ref a3, .ref a4, .null, .null, .int 0, .null, .null, .null])), (a1, .inl (t1, 512, .inl (fun _ => 0))), (a2, .inl (t2, 512, .inl (fun _ => 0))), (a3, .inl (t3, 512, .inl (fun _ => 0))), (a4, .inl (t4, 512, .inl (fun _ => 0))), (a5, .inl (t5, 512, .inl (fun _ => 0)))] H := hP
  have hD : va_D A [(o, .inr (1, [.int 0, .ref a1, .ref a2, .ref a3, .ref a4, .null, .null, .int 0, .null, .null, .null])), (a1, .inl (t1, 512, .inl (fun _ => 0))), (a2, .inl (t2, 512, .inl (fun _ => 0))), (a3, .inl (t3, 512, .inl (fun _ => 0))), (a4, .inl (t4, 512, .inl (fun _ => 0))), (a5, .inl (t5, 512, .inl (fun _ => 0)))] := hD
  have hK : va_K D vwCl [(t1, .int), (t2, .int), (t3, .int), (t4, .int), (t5, .int)] s := hK
  refine W.widen (k := 5) (n := 2560) (Nat.le_of_ble_eq_true rfl) (Nat.le_of_ble_eq_true rfl) ?_
  refine va_put (ci := 1) (v := .ref a5) (ty := .array .int) (C := RX1) (T := TX1) (N := 11) hx hb hts in_X1 tyX1 tyX1_ok nmX1 hown hK hP hD hS 0 rfl rfl 5 (by decide) (hts _ q184) (fun _ h9 => h9) rfl (by decide +kernel) rfl rfl (Nat.le_of_ble_eq_true rfl) dX1_init_46 (fun H locs hP hD hS => ?_)
  have hP : va_P D vwCl [(o, .inr (1, [.int 0, .ref a1, .ref a2, .ref a3, .ref a4, .ref a5, .null, .int 0, .null, .null, .null])), (a1, .inl (t1, 512, .inl (fun _ => 0))), (a2, .inl (t2, 512, .inl (fun _ => 0))), (a3, .inl (t3, 512, .inl (fun _ => 0))), (a4, .inl (t4, 512, .inl (fun _ => 0))), (a5, .inl (t5, 512, .inl (fun _ => 0)))] H := hP
  have hD : va_D A [(o, .inr (1, [.int 0, .ref a1, .ref a2, .ref a3, .ref a4, .ref a5, .null, .int 0, .null, .null, .null])), (a1, .inl (t1, 512, .inl (fun _ => 0))), (a2, .inl (t2, 512, .inl (fun _ => 0))), (a3, .inl (t3, 512, .inl (fun _ => 0))), (a4, .inl (t4, 512, .inl (fun _ => 0))), (a5, .inl (t5, 512, .inl (fun _ => 0)))] := hD
  refine lv_aload_n hx hb dX1_init_49 rfl hl0 ?_
  refine lv_sipush (v := nI 512) hx hb dX1_init_50 (by decide) ?_
  refine va_newa (atype := .boolean) (ty := .boolean) (N' := 512) (a0 := (512, .inl (fun _ => 0))) hx hb (hts _ q213) rfl hK hP hD hS hA (fun _ => rfl) (by decide) (by decide) (by decide) (Nat.le_of_ble_eq_true rfl) (Nat.le_of_ble_eq_true rfl) dX1_init_53 (fun a6 t6 H hK hP hD hS => ?_)
  have hP : va_P D vwCl [(o, .inr (1, [.int 0, .ref a1, .ref a2, .ref a3, .ref a4, .ref a5, .null, .int 0, .null, .null, .null])), (a1, .inl (t1, 512, .inl (fun _ => 0))), (a2, .inl (t2, 512, .inl (fun _ => 0))), (a3, .inl (t3, 512, .inl (fun _ => 0))), (a4, .inl (t4, 512, .inl (fun _ => 0))), (a5, .inl (t5, 512, .inl (fun _ => 0))), (a6, .inl (t6, 512, .inl (fun _ => 0)))] H := hP
  have hD : va_D A [(o, .inr (1, [.int 0, .ref a1, .ref a2, .ref a3, .ref a4, .ref a5, .null, .int 0, .null, .null, .null])), (a1, .inl (t1, 512, .inl (fun _ => 0))), (a2, .inl (t2, 512, .inl (fun _ => 0))), (a3, .inl (t3, 512, .inl (fun _ => 0))), (a4, .inl (t4, 512, .inl (fun _ => 0))), (a5, .inl (t5, 512, .inl (fun _ => 0))), (a6, .inl (t6, 512, .inl (fun _ => 0)))] := hD
  have hK : va_K D vwCl [(t1, .int), (t2, .int), (t3, .int), (t4, .int), (t5, .int), (t6, .boolean)] s := hK
  refine W.widen (k := 6) (n := 3072) (Nat.le_of_ble_eq_true rfl) (Nat.le_of_ble_eq_true rfl) ?_
  refine va_put (ci := 1) (v := .ref a6) (ty := .array .boolean) (C := RX1) (T := TX1) (N := 11) hx hb hts in_X1 tyX1 tyX1_ok nmX1 hown hK hP hD hS 0 rfl rfl 6 (by decide) (hts _ q185) (fun _ h9 => h9) rfl (by decide +kernel) rfl rfl (Nat.le_of_ble_eq_true rfl) dX1_init_55 (fun H locs hP hD hS => ?_)
  have hP : va_P D vwCl [(o, .inr (1, [.int 0, .ref a1, .ref a2, .ref a3, .ref a4, .ref a5, .ref a6, .int 0, .null, .null, .null])), (a1, .inl (t1, 512, .inl (fun _ => 0))), (a2, .inl (t2, 512, .inl (fun _ => 0))), (a3, .inl (t3, 512, .inl (fun _ => 0))), (a4, .inl (t4, 512, .inl (fun _ => 0))), (a5, .inl (t5, 512, .inl (fun _ => 0))), (a6, .inl (t6, 512, .inl (fun _ => 0)))] H := hP
  have hD : va_D A [(o, .inr (1, [.int 0, .ref a1, .ref a2, .ref a3, .ref a4, .ref a5, .ref a6, .int 0, .null, .null, .null])), (a1, .inl (t1, 512, .inl (fun _ => 0))), (a2, .inl (t2, 512, .inl (fun _ => 0))), (a3, .inl (t3, 512, .inl (fun _ => 0))), (a4, .inl (t4, 512, .inl (fun _ => 0))), (a5, .inl (t5, 512, .inl (fun _ => 0))), (a6, .inl (t6, 512, .inl (fun _ => 0)))] := hD
  refine lv_aload_n hx hb dX1_init_58 rfl hl0 ?_
  refine lv_bipush (v := nI 8) hx hb dX1_init_59 (by decide) ?_
  refine va_newa (atype := .int) (ty := .int) (N' := 8) (a0 := (8, .inl (fun _ => 0))) hx hb (hts _ q80) rfl hK hP hD hS hA (fun _ => rfl) (by decide) (by decide) (by decide) (Nat.le_of_ble_eq_true rfl) (Nat.le_of_ble_eq_true rfl) dX1_init_61 (fun a8 t8 H hK hP hD hS => ?_)
  have hP : va_P D vwCl [(o, .inr (1, [.int 0, .ref a1, .ref a2, .ref a3, .ref a4, .ref a5, .ref a6, .int 0, .null, .null, .null])), (a1, .inl (t1, 512, .inl (fun _ => 0))), (a2, .inl (t2, 512, .inl (fun _ => 0))), (a3, .inl (t3, 512, .inl (fun _ => 0))), (a4, .inl (t4, 512, .inl (fun _ => 0))), (a5, .inl (t5, 512, .inl (fun _ => 0))), (a6, .inl (t6, 512, .inl (fun _ => 0))), (a8, .inl (t8, 8, .inl (fun _ => 0)))] H := hP
  have hD : va_D A [(o, .inr (1, [.int 0, .ref a1, .ref a2, .ref a3, .ref a4, .ref a5, .ref a6, .int 0, .null, .null, .null])), (a1, .inl (t1, 512, .inl (fun _ => 0))), (a2, .inl (t2, 512, .inl (fun _ => 0))), (a3, .inl (t3, 512, .inl (fun _ => 0))), (a4, .inl (t4, 512, .inl (fun _ => 0))), (a5, .inl (t5, 512, .inl (fun _ => 0))), (a6, .inl (t6, 512, .inl (fun _ => 0))), (a8, .inl (t8, 8, .inl (fun _ => 0)))] := hD
  have hK : va_K D vwCl [(t1, .int), (t2, .int), (t3, .int), (t4, .int), (t5, .int), (t6, .boolean), (t8, .int)] s := hK
  refine W.widen (k := 7) (n := 3080) (Nat.le_of_ble_eq_true rfl) (Nat.le_of_ble_eq_true rfl) ?_
  refine va_put (ci := 1) (v := .ref a8) (ty := .array .int) (C := RX1) (T := TX1) (N := 11) hx hb hts in_X1 tyX1 tyX1_ok nmX1 hown hK hP hD hS 0 rfl rfl 8 (by decide) (hts _ q187) (fun _ h9 => h9) rfl (by decide +kernel) rfl rfl (Nat.le_of_ble_eq_true rfl) dX1_init_63 (fun H locs hP hD hS => ?_)
  have hP : va_P D vwCl [(o, .inr (1, [.int 0, .ref a1, .ref a2, .ref a3, .ref a4, .ref a5, .ref a6, .int 0, .ref a8, .null, .null])), (a1, .inl (t1, 512, .inl (fun _ => 0))), (a2, .inl (t2, 512, .inl (fun _ => 0))), (a3, .inl (t3, 512, .inl (fun _ => 0))), (a4, .inl (t4, 512, .inl (fun _ => 0))), (a5, .inl (t5, 512, .inl (fun _ => 0))), (a6, .inl (t6, 512, .inl (fun _ => 0))), (a8, .inl (t8, 8, .inl (fun _ => 0)))] H := hP
  have hD : va_D A [(o, .inr (1, [.int 0, .ref a1, .ref a2, .ref a3, .ref a4, .ref a5, .ref a6, .int 0, .ref a8, .null, .null])), (a1, .inl (t1, 512, .inl (fun _ => 0))), (a2, .inl (t2, 512, .inl (fun _ => 0))), (a3, .inl (t3, 512, .inl (fun _ => 0))), (a4, .inl (t4, 512, .inl (fun _ => 0))), (a5, .inl (t5, 512, .inl (fun _ => 0))), (a6, .inl (t6, 512, .inl (fun _ => 0))), (a8, .inl (t8, 8, .inl (fun _ => 0)))] := hD
  refine lv_aload_n hx hb dX1_init_66 rfl hl0 ?_
  refine lv_bipush (v := nI 8) hx hb dX1_init_67 (by decide) ?_
  refine va_newa (atype := .int) (ty := .int) (N' := 8) (a0 := (8, .inl (fun _ => 0))) hx hb (hts _ q80) rfl hK hP hD hS hA (fun _ => rfl) (by decide) (by decide) (by decide) (Nat.le_of_ble_eq_true rfl) (Nat.le_of_ble_eq_true rfl) dX1_init_69 (fun a9 t9 H hK hP hD hS => ?_)
  have hP : va_P D vwCl [(o, .inr (1, [.int 0, .ref a1, .ref a2, .ref a3, .ref a4, .ref a5, .ref a6, .int 0, .ref a8, .null, .null])), (a1, .inl (t1, 512, .inl (fun _ => 0))), (a2, .inl (t2, 512, .inl (fun _ => 0))), (a3, .inl (t3, 512, .inl (fun _ => 0))), (a4, .inl (t4, 512, .inl (fun _ => 0))), (a5, .inl (t5, 512, .inl (fun _ => 0))), (a6, .inl (t6, 512, .inl (fun _ => 0))), (a8, .inl (t8, 8, .inl (fun _ => 0))), (a9, .inl (t9, 8, .inl (fun _ => 0)))] H := hP
  have hD : va_D A [(o, .inr (1, [.int 0, .ref a1, .ref a2, .ref a3, .ref a4, .ref a5, .ref a6, .int 0, .ref a8, .null, .null])), (a1, .inl (t1, 512, .inl (fun _ => 0))), (a2, .inl (t2, 512, .inl (fun _ => 0))), (a3, .inl (t3, 512, .inl (fun _ => 0))), (a4, .inl (t4, 512, .inl (fun _ => 0))), (a5, .inl (t5, 512, .inl (fun _ => 0))), (a6, .inl (t6, 512, .inl (fun _ => 0))), (a8, .inl (t8, 8, .inl (fun _ => 0))), (a9, .inl (t9, 8, .inl (fun _ => 0)))] := hD
  have hK : va_K D vwCl [(t1, .int), (t2, .int), (t3, .int), (t4, .int), (t5, .int), (t6, .boolean), (t8, .int), (t9, .int)] s := hK
  refine W.widen (k := 8) (n := 3088) (Nat.le_of_ble_eq_true rfl) (Nat.le_of_ble_eq_true rfl) ?_
  refine va_put (ci := 1) (v := .ref a9) (ty := .array .int) (C := RX1) (T := TX1) (N := 11) hx hb hts in_X1 tyX1 tyX1_ok nmX1 hown hK hP hD hS 0 rfl rfl 9 (by decide) (hts _ q188) (fun _ h9 => h9) rfl (by decide +kernel) rfl rfl (Nat.le_of_ble_eq_true rfl) dX1_init_71 (fun H locs hP hD hS => ?_)
  have hP : va_P D vwCl [(o, .inr (1, [.int 0, .ref a1, .ref a2, .ref a3, .ref a4, .ref a5, .ref a6, .int 0, .ref a8, .ref a9, .null])), (a1, .inl (t1, 512, .inl (fun _ => 0))), (a2, .inl (t2, 512, .inl (fun _ => 0))), (a3, .inl (t3, 512, .inl (fun _ => 0))), (a4, .inl (t4, 512, .inl (fun _ => 0))), (a5, .inl (t5, 512, .inl (fun _ => 0))), (a6, .inl (t6, 512, .inl (fun _ => 0))), (a8, .inl (t8, 8, .inl (fun _ => 0))), (a9, .inl (t9, 8, .inl (fun _ => 0)))] H := hP
  have hD : va_D A [(o, .inr (1, [.int 0, .ref a1, .ref a2, .ref a3, .ref a4, .ref a5, .ref a6, .int 0, .ref a8, .ref a9, .null])), (a1, .inl (t1, 512, .inl (fun _ => 0))), (a2, .inl (t2, 512, .inl (fun _ => 0))), (a3, .inl (t3, 512, .inl (fun _ => 0))), (a4, .inl (t4, 512, .inl (fun _ => 0))), (a5, .inl (t5, 512, .inl (fun _ => 0))), (a6, .inl (t6, 512, .inl (fun _ => 0))), (a8, .inl (t8, 8, .inl (fun _ => 0))), (a9, .inl (t9, 8, .inl (fun _ => 0)))] := hD
  refine lv_aload_n hx hb dX1_init_74 rfl hl0 ?_
  refine lv_bipush (v := nI 8) hx hb dX1_init_75 (by decide) ?_
  refine va_newa (atype := .int) (ty := .int) (N' := 8) (a0 := (8, .inl (fun _ => 0))) hx hb (hts _ q80) rfl hK hP hD hS hA (fun _ => rfl) (by decide) (by decide) (by decide) (Nat.le_of_ble_eq_true rfl) (Nat.le_of_ble_eq_true rfl) dX1_init_77 (fun a10 t10 H hK hP hD hS => ?_)
  have hP : va_P D vwCl [(o, .inr (1, [.int 0, .ref a1, .ref a2, .ref a3, .ref a4, .ref a5, .ref a6, .int 0, .ref a8, .ref a9, .null])), (a1, .inl (t1, 512, .inl (fun _ => 0))), (a2, .inl (t2, 512, .inl (fun _ => 0))), (a3, .inl (t3, 512, .inl (fun _ => 0))), (a4, .inl (t4, 512, .inl (fun _ => 0))), (a5, .inl (t5, 512, .inl (fun _ => 0))), (a6, .inl (t6, 512, .inl (fun _ => 0))), (a8, .inl (t8, 8, .inl (fun _ => 0))), (a9, .inl (t9, 8, .inl (fun _ => 0))), (a10, .inl (t10, 8, .inl (fun _ => 0)))] H := hP
  have hD : va_D A [(o, .inr (1, [.int 0, .ref a1, .ref a2, .ref a3, .ref a4, .ref a5, .ref a6, .int 0, .ref a8, .ref a9, .null])), (a1, .inl (t1, 512, .inl (fun _ => 0))), (a2, .inl (t2, 512, .inl (fun _ => 0))), (a3, .inl (t3, 512, .inl (fun _ => 0))), (a4, .inl (t4, 512, .inl (fun _ => 0))), (a5, .inl (t5, 512, .inl (fun _ => 0))), (a6, .inl (t6, 512, .inl (fun _ => 0))), (a8, .inl (t8, 8, .inl (fun _ => 0))), (a9, .inl (t9, 8, .inl (fun _ => 0))), (a10, .inl (t10, 8, .inl (fun _ => 0)))] := hD
  have hK : va_K D vwCl [(t1, .int), (t2, .int), (t3, .int), (t4, .int), (t5, .int), (t6, .boolean), (t8, .int), (t9, .int), (t10, .int)] s := hK
  refine W.widen (k := 9) (n := 3096) (Nat.le_of_ble_eq_true rfl) (Nat.le_of_ble_eq_true rfl) ?_
  refine va_put (ci := 1) (v := .ref a10) (ty := .array .int) (C := RX1) (T := TX1) (N := 11) hx hb hts in_X1 tyX1 tyX1_ok nmX1 hown hK hP hD hS 0 rfl rfl 10 (by decide) (hts _ q189) (fun _ h9 => h9) rfl (by decide +kernel) rfl rfl (Nat.le_of_ble_eq_true rfl) dX1_init_79 (fun H locs hP hD hS => ?_)
  have hP : va_P D vwCl [(o, .inr (1, [.int 0, .ref a1, .ref a2, .ref a3, .ref a4, .ref a5, .ref a6, .int 0, .ref a8, .ref a9, .ref a10])), (a1, .inl (t1, 512, .inl (fun _ => 0))), (a2, .inl (t2, 512, .inl (fun _ => 0))), (a3, .inl (t3, 512, .inl (fun _ => 0))), (a4, .inl (t4, 512, .inl (fun _ => 0))), (a5, .inl (t5, 512, .inl (fun _ => 0))), (a6, .inl (t6, 512, .inl (fun _ => 0))), (a8, .inl (t8, 8, .inl (fun _ => 0))), (a9, .inl (t9, 8, .inl (fun _ => 0))), (a10, .inl (t10, 8, .inl (fun _ => 0)))] H := hP
  have hD : va_D A [(o, .inr (1, [.int 0, .ref a1, .ref a2, .ref a3, .ref a4, .ref a5, .ref a6, .int 0, .ref a8, .ref a9, .ref a10])), (a1, .inl (t1, 512, .inl (fun _ => 0))), (a2, .inl (t2, 512, .inl (fun _ => 0))), (a3, .inl (t3, 512, .inl (fun _ => 0))), (a4, .inl (t4, 512, .inl (fun _ => 0))), (a5, .inl (t5, 512, .inl (fun _ => 0))), (a6, .inl (t6, 512, .inl (fun _ => 0))), (a8, .inl (t8, 8, .inl (fun _ => 0))), (a9, .inl (t9, 8, .inl (fun _ => 0))), (a10, .inl (t10, 8, .inl (fun _ => 0)))] := hD
  obtain ⟨q, hq⟩ : ∃ q : Nat → Nat, q = (fun k => match k with | 1 => a1 | 2 => a2 | 3 => a3 | 4 => a4 | 5 => a5 | 6 => a6 | 8 => a8 | 9 => a9 | _ => a10) := ⟨_, rfl⟩
  obtain ⟨tt, htt⟩ : ∃ tt : Nat → ClassId, tt = (fun k => match k with | 1 => t1 | 2 => t2 | 3 => t3 | 4 => t4 | 5 => t5 | 6 => t6 | 8 => t8 | 9 => t9 | _ => t10) := ⟨_, rfl⟩
  have hP : va_P D vwCl (MW o q tt (fun _ _ => 0)) H := by rw [hq, htt]; exact hP
  have hD : va_D A (MW o q tt (fun _ _ => 0)) := by rw [hq, htt]; exact hD
  have hK : va_K D vwCl (MK tt) s := by rw [htt]; exact hK
  have C : Cx p s m [Value.ref o].toArray c D A cX1_init 2 RX1 (MK tt) := ⟨hx, hb, hml, hown, hts, hK, hA⟩
  have RT : ∀ {pc : Nat} {L : List (Option Value)}, decode cX1_init pc = .ok (.return_, 1) → G p l e rIM s m [Value.ref o].toArray below meth c D A 2 9 3096 (MQ below (va_Qv (fun _ : (Nat → Nat) × (Nat → ClassId) => True) (fun z t => WB D (MK z.2) (MW o z.1 z.2) A u0M t) A) [Value.ref o].toArray s 9 3096 A) (MW o q tt u0M) pc L [] := by
    intro pc L hdg H locs ls hP hD hS hl
    exact W.vret hx hb hr (fun t ht hW => ⟨⟨(q, tt), rfl, trivial, by rw [ht]; exact hP, va_K.moved hW.alike hK, hD⟩, hS.F ht⟩) hS.2.2 hdg hlocks
  suffices main : G p l e rIM s m [Value.ref o].toArray below meth c D A 2 9 3096 (MQ below (va_Qv (fun _ : (Nat → Nat) × (Nat → ClassId) => True) (fun z t => WB D (MK z.2) (MW o z.1 z.2) A u0M t) A) [Value.ref o].toArray s 9 3096 A) (MW o q tt (fun _ _ => 0)) 82 [some (.ref o), none] [] from main H _ ls hP hD hS hl
  clear hP hD hS hl hl0
  generalize (MQ below (va_Qv (fun _ : (Nat → Nat) × (Nat → ClassId) => True) (fun z t => WB D (MK z.2) (MW o z.1 z.2) A u0M t) A) [Value.ref o].toArray s 9 3096 A) = Q at RT ⊢
  have loop1 : ∀ (n r : Nat) (u3 : Mem), n + r = 8 → u0M = iM1 n r u3 → G p l e rIM s m [Value.ref o].toArray below meth c D A 2 9 3096 Q (MW o q tt (u3)) 84 [some (.ref o), some (.int (nI r))] [] := by
    intro n
    induction n with
    | zero =>
      intro r u3 hr he
      refine g_iload_n C dX1_init_84 rfl ?_
      refine g_bipush C (nI 8) dX1_init_85 (by decide) ?_
      refine g_icmp_ge C 104 dX1_init_87 (by decide) (fun h => ?_) (fun h => ?_)
      · rw [show u3 = u0M from he.symm]
        exact RT dX1_init_104
      · exact absurd (nI_le (by omega) (by omega)) h
    | succ n ih =>
      intro r u3 hr he
      have hr8 : r < 8 := by omega
      unfold iM1 at he
      refine g_iload_n C dX1_init_84 rfl ?_
      refine g_bipush C (nI 8) dX1_init_85 (by decide) ?_
      refine g_icmp_ge C 104 dX1_init_87 (by decide) (fun h => ?_) (fun h => ?_)
      · exact absurd h (nI_ge (by omega) (by omega))
      · refine g_aload_n C dX1_init_90 rfl ?_
        refine mg_9 C dX1_init_91 ?_
        refine g_iload_n C dX1_init_94 rfl ?_
        refine g_bipush C (-4) dX1_init_95 (by decide) ?_
        refine ms_9 C (r) (rfl) (hr8) dX1_init_97 ?_
        refine g_iinc C (nI (r + 1)) dX1_init_98 rfl (inc1 r) (by decide) ?_
        refine g_goto C 84 dX1_init_101 (by decide) ?_
        exact ih (r + 1) _ (by omega) he
  refine g_iconst C (0) dX1_init_82 (by decide) ?_
  refine g_istore_n C dX1_init_83 (by decide) ?_
  exact loop1 8 0 _ rfl rfl
end
section
/-! THE CLAIM OUT OF ONE WALK OF THE LAW'S BODY. Your part is whole_start (and what it stands on); all else here is the same for every law, but numbers. -/
def R_law : String := "UndoReaderLaw"
def lw_P (b : Addr) (xs : List Int32) (args : Array Value) (s : State) : Prop := args = #[.ref b] ∧ s.IntsAt b xs ∧ xs.length ≤ 256 ∧ (Jvm.Cond.and given_1 narrow_1).before args s = true
def lw_Q (_ : Array Value) (s : State) (o : Outcome) (t : State) : Prop := o = .returned (some (.int 1)) ∧ Framed s o t [] 600000 7290000
def lw_Z (below : List Frame) (a : Array Value) (s : State) : State → Prop := fun t => ∃ o, t.status = .running ∧ Ended t below o ∧ lw_Q a s o t
/-- the law's own end, with 1 on the stack, nothing written that was there before, its room as the claim has it -/
theorem lw_ret {p : Program} {l : Launch} {e : Env} {s : State} {m : MethodId} {below : List Frame} {meth : Method} {c : Code} {b : Nat} (hx : p.tables.exec = Jvm.exec) (hb : c.code = code) (hr : meth.sig.returnType = ret) (hlocks : meth.locks = false) {pc : Nat} {H : Heap} {ls : Array Slot} (hdg : decode code pc = .ok (.ireturn, 1)) : W p l e room_1 s m #[Value.ref b] below meth c H [] 600000 7290000 (lw_Z below #[Value.ref b] s) (F0 m pc ls [.int 1]) := by
  intro T hT X
  obtain ⟨fs, hret, hrun, hended, hW, hframe⟩ := X.leave (v := some (.int 1)) (hlocks := hlocks) (fun h => by rw [hr] at h; cases h)
  have hmeth' : T.vm.method? m = some meth := X.method'
  refine ⟨T.setFrames fs, ?_, .returned (some (.int 1)), hrun, hended, rfl, ⟨_, rfl⟩, hW, hframe⟩
  jvm_step X.here [X.here.top, hx, hb, hdg, hmeth', hr, ret, narrow_b1]
  (try refine ⟨rfl, ?_⟩); (try refine ⟨rfl, ?_⟩)
  first | (intro acts; rw [hret _ acts rfl rfl rfl]) | rw [hret _ _ rfl rfl rfl]
  exact Steps.refl _
/-- what holds at the law's entry: the machine, the code, the tables' words (any of lw_tbl by 'hts w (by decide +kernel)'), the script of L ints xs at the cell b, what the Statement gives of the start (any of its parts by flat_of_before) -/
def lw_At (p : Program) (s : State) (m : MethodId) (meth : Method) (c : Code) (b L : Nat) (xs : Nat → Int32) : Prop :=
  p.tables.exec = Jvm.exec ∧ c.code = code ∧ meth.sig.returnType = ret ∧ c.maxLocals = 4 ∧ s.vm.findClass R_law = some m.cls ∧ (∀ w ∈ lw_tbl, w.before #[Value.ref b] s = true) ∧ va_X b L xs s s.heap ∧ b < s.heap.size ∧ meth.locks = false ∧ (Jvm.Cond.and given_1 narrow_1).before #[Value.ref b] s = true
/-! ===== two worlds side by side ===== -/
theorem split_P {D : va_G} {cl : List vw_C} {w1 w2 : va_W} {H : Heap} (h : va_P D cl (w1 ++ w2) H) : va_P D cl w1 H ∧ va_P D cl w2 H := by
  refine ⟨fun k q hq => h k q ?_, fun k q hq => h (w1.length + k) q ?_⟩
  · rw [List.getElem?_append_left (List.getElem?_eq_some_iff.mp hq).1]; exact hq
  · rw [List.getElem?_append_right (by omega), show w1.length + k - w1.length = k by omega]; exact hq
theorem split_D {A : Nat → Prop} {w1 w2 : va_W} (h : va_D A (w1 ++ w2)) : va_D A w1 ∧ va_D A w2 ∧ ∀ (i j : Nat) (x y : Nat × va_E), w1[i]? = some x → w2[j]? = some y → x.1 ≠ y.1 := by
  have l1 : ∀ (k : Nat) (q : Nat × va_E), w1[k]? = some q → (w1 ++ w2)[k]? = some q := fun k q hq => by
    rw [List.getElem?_append_left (List.getElem?_eq_some_iff.mp hq).1]; exact hq
  have l2 : ∀ (k : Nat) (q : Nat × va_E), w2[k]? = some q → (w1 ++ w2)[w1.length + k]? = some q := fun k q hq => by
    rw [List.getElem?_append_right (by omega), show w1.length + k - w1.length = k by omega]; exact hq
  refine ⟨⟨fun i j x y hi hj e => h.1 i j x y (l1 i x hi) (l1 j y hj) e, fun k q hq => h.2 k q (l1 k q hq)⟩, ⟨fun i j x y hi hj e => ?_, fun k q hq => h.2 _ q (l2 k q hq)⟩, fun i j x y hi hj e => ?_⟩
  · have := h.1 _ _ x y (l2 i x hi) (l2 j y hj) e
    omega
  · have h1 := h.1 _ _ x y (l1 i x hi) (l2 j y hj) e
    have h2 := (List.getElem?_eq_some_iff.mp hi).1
    omega
theorem split_K {D : va_G} {cl : List vw_C} {t1 t2 : List (ClassId × FieldType)} {U : State} (h : va_K D cl (t1 ++ t2) U) : va_K D cl t1 U ∧ va_K D cl t2 U := by
  refine ⟨⟨h.1, fun k q hq => h.2 k q ?_⟩, ⟨h.1, fun k q hq => h.2 (t1.length + k) q ?_⟩⟩
  · rw [List.getElem?_append_left (List.getElem?_eq_some_iff.mp hq).1]; exact hq
  · rw [List.getElem?_append_right (by omega), show t1.length + k - t1.length = k by omega]; exact hq
/-- cells that are apart from the callee's stay as they were -/
theorem keep_P {D : va_G} {cl : List vw_C} {wc w : va_W} {H H1 : Heap} (hP : va_P D cl w H) (hx : ∀ (i j : Nat) (x y : Nat × va_E), wc[i]? = some x → w[j]? = some y → x.1 ≠ y.1) (hk : ∀ q : Nat, q < H.size → ¬ va_A wc H.size q → H1[q]? = H[q]?) : va_P D cl w H1 ∧ ∀ (j : Nat) (y : Nat × va_E), w[j]? = some y → ¬ va_A wc H.size y.1 := by
  have hn : ∀ (j : Nat) (y : Nat × va_E), w[j]? = some y → ¬ va_A wc H.size y.1 := fun j y hy h => by
    rcases h with ⟨k, e, h⟩ | h
    · exact hx k j (y.1, e) y h hy rfl
    · have := (hP j y hy).lt
      omega
  exact ⟨hP.kept (fun k q hq => hk q.1 ((hP k q hq).lt) (hn k q hq)), hn⟩
section LC
variable {p : Program} {l : Launch} {e : Env} {R : Room} {s : State} {m : MethodId} {args : Array Value} {below : List Frame} {meth : Method} {c : Code} {D : va_G} {A : Nat → Prop} {n : Nat} {cells slots : Nat} {Q : State → Prop} {pc : Nat} {L : List (Option Value)} {rest : List Value} {cc : ByteArray} {own : String} {t1 t2 : List (ClassId × FieldType)} {wf : Mem → va_W} {u : Mem} {w : va_W}
theorem l_call1 (C : Cx p s m args c D A cc n own (t1 ++ t2)) {o ci : Nat} {Cn : String} {TT : u_T} {NN : Nat} {y : MethodName} {cc' : ByteArray} {nL : Nat} {ret : FieldType} {rm : Room} {As : List Value} {post : Int32 → Mem → Prop} {idx : Nat} (hM : Mi D t1 o wf y cc' nL ret rm As u post) (hci : vwCl[ci]? = some (Cn, TT, NN)) (ho : ∃ fs, (wf u)[0]? = some (o, .inr (ci, fs))) (cw : CallW R s args own Cn idx y cc' nL (some ret) (ws_ y cc' nL (some ret)) rm 0 0 As.length) (hdg : decode cc pc = .ok (.invokevirtual idx, 3)) (hrm : (rest.map fun v => v.category).sum ≤ 8) (hcs : cells ≤ R.cells ∧ slots ≤ R.slots) {st : List Value} (hst : st = As.reverse ++ .ref o :: rest)
    (kk : ∀ (r : Int32) (u' : Mem), post r u' → G p l e R s m args below meth c D A n cells slots Q (wf u' ++ w) (pc + 3) L (.int r :: rest)) : G p l e R s m args below meth c D A n cells slots Q (wf u ++ w) pc L st := by
  intro H locs ls hP hD hS hl
  subst hst
  obtain ⟨hx, hb, hml, hown, hts, hK, hA⟩ := C
  obtain ⟨fs, ho⟩ := ho
  obtain ⟨hPc, hPr⟩ := split_P hP
  obtain ⟨hDc, hDr, hap⟩ := split_D hD
  have hKc := (split_K hK).1
  have hF : ∀ q, va_A (wf u) H.size q → A q := fun q h => by
    rcases h with ⟨k, e, h⟩ | h
    · exact hDc.2 k (q, e) h
    · exact hA q (Nat.le_trans hS.1 h)
  refine va_calli (va_runV (As := As) (rest := rest) (b := o) ⟨hx, hb, hml, hown, hts⟩ (hM l H.size) cw ⟨Wpre.blind, va_recv hKc hPc hci ho, fun U hU hW => ⟨rfl, by rw [hU], by rw [hU]; exact hPc, va_K.moved hW.alike hKc, hDc.weaken (fun _ _ _ _ => trivial)⟩⟩ rfl rfl hl.1 rfl (lv_room hrm) hdg hcs) hS (fun q _ h => hF q h) hF (fun r u' t H1 locs ht hvm hw hB hz1 hk1 hS => ?_)
  obtain ⟨hP1, hK1, hD1⟩ := hB
  rw [ht] at hP1
  obtain ⟨hPk, hn⟩ := keep_P hPr hap hk1
  exact kk r u' hw H1 locs ls (hP1.app hPk) (va_D.app (hD1.weaken (fun k q _ h => hF q.1 h)) hDr (fun i j x y hx hy e => hn j y hy (by rw [← e]; exact hD1.2 i x hx))) hS hl
theorem l_call2 (C : Cx p s m args c D A cc n own (t1 ++ t2)) {o ci : Nat} {Cn : String} {TT : u_T} {NN : Nat} {y : MethodName} {cc' : ByteArray} {nL : Nat} {ret : FieldType} {rm : Room} {As : List Value} {post : Int32 → Mem → Prop} {idx : Nat} (hM : Mi D t2 o wf y cc' nL ret rm As u post) (hci : vwCl[ci]? = some (Cn, TT, NN)) (ho : ∃ fs, (wf u)[0]? = some (o, .inr (ci, fs))) (cw : CallW R s args own Cn idx y cc' nL (some ret) (ws_ y cc' nL (some ret)) rm 0 0 As.length) (hdg : decode cc pc = .ok (.invokevirtual idx, 3)) (hrm : (rest.map fun v => v.category).sum ≤ 8) (hcs : cells ≤ R.cells ∧ slots ≤ R.slots) {st : List Value} (hst : st = As.reverse ++ .ref o :: rest)
    (kk : ∀ (r : Int32) (u' : Mem), post r u' → G p l e R s m args below meth c D A n cells slots Q (w ++ wf u') (pc + 3) L (.int r :: rest)) : G p l e R s m args below meth c D A n cells slots Q (w ++ wf u) pc L st := by
  intro H locs ls hP hD hS hl
  subst hst
  obtain ⟨hx, hb, hml, hown, hts, hK, hA⟩ := C
  obtain ⟨fs, ho⟩ := ho
  obtain ⟨hPr, hPc⟩ := split_P hP
  obtain ⟨hDr, hDc, hap⟩ := split_D hD
  have hKc := (split_K hK).2
  have hF : ∀ q, va_A (wf u) H.size q → A q := fun q h => by
    rcases h with ⟨k, e, h⟩ | h
    · exact hDc.2 k (q, e) h
    · exact hA q (Nat.le_trans hS.1 h)
  refine va_calli (va_runV (As := As) (rest := rest) (b := o) ⟨hx, hb, hml, hown, hts⟩ (hM l H.size) cw ⟨Wpre.blind, va_recv hKc hPc hci ho, fun U hU hW => ⟨rfl, by rw [hU], by rw [hU]; exact hPc, va_K.moved hW.alike hKc, hDc.weaken (fun _ _ _ _ => trivial)⟩⟩ rfl rfl hl.1 rfl (lv_room hrm) hdg hcs) hS (fun q _ h => hF q h) hF (fun r u' t H1 locs ht hvm hw hB hz1 hk1 hS => ?_)
  obtain ⟨hP1, hK1, hD1⟩ := hB
  rw [ht] at hP1
  obtain ⟨hPk, hn⟩ := keep_P hPr (fun i j x y hx hy e => hap j i y x hy hx e.symm) hk1
  exact kk r u' hw H1 locs ls (hPk.app hP1) (va_D.app hDr (hD1.weaken (fun k q _ h => hF q.1 h)) (fun i j x y hx hy e => hn i x hx (by rw [e]; exact hD1.2 j y hy))) hS hl
variable {ws : va_W} {tys : List (ClassId × FieldType)} {b Ln : Nat} {xs : Nat → Int32}
theorem g_sld (C : Cx p s m args c D A cc n own tys) (hX : va_X b Ln xs s s.heap) (hbl : b < s.heap.size) (hbA : ¬ A b) (hLn : Ln ≤ 256) {i : Int32} (j : Nat) (hi : i = nI j) (hj : j < Ln) (hdg : decode cc pc = .ok (.iaload, 1)) (kk : G p l e R s m args below meth c D A n cells slots Q ws (pc + 1) L (.int (xs j) :: rest)) : G p l e R s m args below meth c D A n cells slots Q ws pc L (.int i :: .ref b :: rest) := by
  intro H locs ls hP hD hS hl
  subst hi
  refine va_sld C.1 C.2.1 hX hbl hbA hS (vp_in_nI hj (by omega)) hdg ?_
  rw [nI_clamp (by omega)]
  exact kk H locs ls hP hD hS hl
theorem g_slen (C : Cx p s m args c D A cc n own tys) (hX : va_X b Ln xs s s.heap) (hbl : b < s.heap.size) (hbA : ¬ A b) (hdg : decode cc pc = .ok (.arraylength, 1)) (kk : G p l e R s m args below meth c D A n cells slots Q ws (pc + 1) L (.int (nI Ln) :: rest)) : G p l e R s m args below meth c D A n cells slots Q ws pc L (.ref b :: rest) :=
  fun H locs ls hP hD hS hl => va_slen C.1 C.2.1 hX hbl hbA hS hdg (kk H locs ls hP hD hS hl)
theorem g_tableIn (C : Cx p s m args c D A cc n own tys) {dflt lo hi : Int} {offs : Array Int} {len : Nat} {x : Int32} {off : Int} (tgt : Nat) (hdg : decode cc pc = .ok (.tableswitch dflt lo hi offs, len)) (h1 : ¬ x.toInt < lo) (h2 : ¬ hi < x.toInt) (ho : offs[(x.toInt - lo).toNat]? = some off) (ht : (pc : Int) + off = (tgt : Int)) (kk : G p l e R s m args below meth c D A n cells slots Q ws tgt L rest) : G p l e R s m args below meth c D A n cells slots Q ws pc L (.int x :: rest) :=
  fun H locs ls hP hD hS hl => lv_tableIn C.1 C.2.1 hdg h1 h2 ho ht (kk H locs ls hP hD hS hl)
theorem g_tableOut (C : Cx p s m args c D A cc n own tys) {dflt lo hi : Int} {offs : Array Int} {len : Nat} {x : Int32} (tgt : Nat) (hdg : decode cc pc = .ok (.tableswitch dflt lo hi offs, len)) (h : x.toInt < lo ∨ hi < x.toInt) (ht : (pc : Int) + dflt = (tgt : Int)) (kk : G p l e R s m args below meth c D A n cells slots Q ws tgt L rest) : G p l e R s m args below meth c D A n cells slots Q ws pc L (.int x :: rest) :=
  fun H locs ls hP hD hS hl => lv_tableOut C.1 C.2.1 hdg h ht (kk H locs ls hP hD hS hl)
end LC
/-- what the law asks of a relation between the two memories: each operation answers alike and keeps it (k: calls made) -/
def OpsOK (Rel : Nat → Mem → Mem → Prop) : Prop :=
  (∀ k u v, Rel k u v → WF u ∧ (u 12 0 = nI 24 → ¬ u 10 0 < 0) ∧ (∀ i, okP 8 (v 1 i)) ∧ ∃ N, v 0 0 = nI N ∧ N ≤ k) ∧
  (∀ k u v, Rel k u v → Rel (k + 1) u v) ∧
  (∀ k u v N x r w, Rel k u v → k < 64 → v 0 0 = nI N → N ≤ k → (changeF u x r w).1 = (mchangeF v N x r w).1 ∧ Rel (k + 1) (changeF u x r w).2 (mchangeF v N x r w).2) ∧
  (∀ k u v N x, Rel k u v → k < 64 → v 0 0 = nI N → N ≤ k → (commitF u x).1 = (mcommitF v N x).1 ∧ Rel (k + 1) (commitF u x).2 (mcommitF v N x).2) ∧
  (∀ k u v N x, Rel k u v → k < 64 → v 0 0 = nI N → N ≤ k → (rollF u x).1 = (mrollF v N x).1 ∧ Rel (k + 1) (rollF u x).2 (mrollF v N x).2) ∧
  (∀ k u v N, Rel k u v → k < 64 → v 0 0 = nI N → N ≤ k → u 17 0 = v 7 0 ∧ u 12 0 = remF v N 0 0 ∧
    (∀ x r t, readF u x r t = mreadF v N x r t) ∧ (∀ r, rawF u r = mrawF v r) ∧ (∀ r, holderF u r = mholderF v r) ∧ (∀ x, lockL u x 8 0 0 = mlockL v x 8 0 0) ∧
    (∀ x, changesF u x = cntF v x N 0 0) ∧ (∀ r, oldestF u r = moldestF v r) ∧ (∀ t, chsF u t = mchsF v N t))
theorem inc4 (i : Nat) : nI i + Int32.ofInt 4 = nI (i + 4) := by
  rw [show Int32.ofInt 4 = nI 4 from by decide]
  exact nI_add i 4
theorem lastLt {i L : Nat} (hi : i ≤ 256) (hL : L ≤ 256) : (nI L - nI 4 < nI i) ↔ L < i + 4 := by
  rw [Int32.lt_iff_toInt_lt, pk_sub_toInt (by omega) (by omega), nI_toInt (by omega)]
  omega
set_option maxHeartbeats 4000000 in
set_option maxRecDepth 100000 in
theorem law_loop {Rel : Nat → Mem → Mem → Prop} (OK : OpsOK Rel) {p : Program} {l : Launch} {e : Env} {s : State} {m : MethodId} {below : List Frame} {meth : Method} {c : Code} {D : va_G} {o o' : Nat} {q q' : Nat → Nat} {tt tt' : Nat → ClassId} {b L : Nat} {xs : Nat → Int32} (hL : L ≤ 256) (C0 : lw_At p s m meth c b L xs) (hK : va_K D vwCl (XK tt ++ MK tt') s) :
    ∀ (n k : Nat) (u v : Mem), 4 * k ≤ L + 3 → 65 ≤ k + n → Rel k u v → G p l e room_1 s m #[Value.ref b] below meth c D (fun q => s.heap.size ≤ q) 4 23 3361 (lw_Z below #[Value.ref b] s) (XW o q tt u ++ MW o' q' tt' v) 18 [some (.ref b), some (.ref o), some (.ref o'), some (.int (nI (4 * k)))] [] := by
  obtain ⟨hx, hb, hr, hml, hown, hts, hX, hbl, hlocks, hgv⟩ := C0
  have hbA : ¬ (fun q : Nat => s.heap.size ≤ q) b := Nat.not_le.mpr hbl
  have C : Cx p s m #[Value.ref b] c D (fun q => s.heap.size ≤ q) cL_law 4 R_law (XK tt ++ MK tt') := ⟨hx, hb, hml, hown, fun w h => hts w (lw_all_tbl h), hK, fun _ h => h⟩
  obtain ⟨Opre, Omono, Och, Oco, Orb, Ord⟩ := OK
  intro n
  induction n with
  | zero =>
    intro k u v hk hn
    exact absurd hn (by omega)
  | succ n ih =>
    intro k u v hk hn hR
    refine g_iload_n C dL_law_18 rfl ?_
    refine g_aload_n C dL_law_19 rfl ?_
    refine g_slen C hX hbl hbA dL_law_20 ?_
    refine g_iconst C (nI 4) dL_law_21 (by decide) ?_
    refine g_isub C dL_law_22 ?_
    refine g_icmp_gt C 398 dL_law_23 (by decide) (fun h => ?_) (fun h => ?_)
    · refine g_iconst C 1 dL_law_398 (by decide) ?_
      intro H locs ls hP hD hS hl
      refine va_forget (fun q hq => hS.2.2 q hq) ?_
      refine W.widen (k := 600000) (n := 7290000) (Nat.le_of_ble_eq_true rfl) (Nat.le_of_ble_eq_true rfl) ?_
      exact lw_ret hx hb hr hlocks dL_law_399
    · have hk4 : 4 * k + 4 ≤ L := Nat.le_of_not_lt (fun z => h ((lastLt (by omega) hL).mpr z))
      have hk64 : k < 64 := by omega
      obtain ⟨W, hf, WM, N, hN, hNk⟩ := Opre k u v hR
      have hN5 : N ≤ 512 := by omega
      obtain ⟨Qcl, Qrem, Qread, Qraw, Qhold, Qlocks, Qchg, Qold, Qchs⟩ := Ord k u v N hR hk64 hN hNk
      have J392 : ∀ u2 v2 : Mem, Rel (k + 1) u2 v2 → G p l e room_1 s m #[Value.ref b] below meth c D (fun q => s.heap.size ≤ q) 4 23 3361 (lw_Z below #[Value.ref b] s) (XW o q tt (u2) ++ MW o' q' tt' (v2)) 392 [some (.ref b), some (.ref o), some (.ref o'), some (.int (nI (4 * k)))] [] := by
        intro u2 v2 hR2
        refine g_iinc C (nI (4 * (k + 1))) dL_law_392 rfl (inc4 (4 * k)) (by decide) ?_
        refine g_goto C 18 dL_law_395 (by decide) ?_
        exact ih (k + 1) u2 v2 (by omega) (by omega) hR2
      refine g_aload_n C dL_law_26 rfl ?_
      refine g_iload_n C dL_law_27 rfl ?_
      refine g_sld C hX hbl hbA hL (4 * k) rfl (by omega) dL_law_28 ?_
      refine g_bipush C (nI 15) dL_law_29 (by decide) ?_
      refine g_iand C dL_law_31 ?_
      obtain ⟨j, hj, ej⟩ := pk_andE (xs (4 * k)) (m := nI 15) 4 (by decide)
      rw [ej]
      rcases (show j = 0 ∨ j = 1 ∨ j = 2 ∨ j = 3 ∨ j = 4 ∨ j = 5 ∨ j = 6 ∨ j = 7 ∨ j = 8 ∨ j = 9 ∨ j = 10 ∨ j = 11 ∨ 12 ≤ j by omega) with rfl | rfl | rfl | rfl | rfl | rfl | rfl | rfl | rfl | rfl | rfl | rfl | hj12
      · refine g_tableIn C 96 dL_law_32 (by decide) (by decide) rfl (by decide) ?_
        refine g_aload_n C dL_law_96 rfl ?_
        refine g_aload_n C dL_law_97 rfl ?_
        refine g_iload_n C dL_law_98 rfl ?_
        refine g_iconst C 1 dL_law_99 (by decide) ?_
        refine g_iadd C dL_law_100 ?_
        refine g_sld C hX hbl hbA hL (4 * k + 1) (nI_1 _) (by omega) dL_law_101 ?_
        refine g_aload_n C dL_law_102 rfl ?_
        refine g_iload_n C dL_law_103 rfl ?_
        refine g_iconst C (nI 2) dL_law_104 (by decide) ?_
        refine g_iadd C dL_law_105 ?_
        refine g_sld C hX hbl hbA hL (4 * k + 2) (nI_add _ _) (by omega) dL_law_106 ?_
        refine g_aload_n C dL_law_107 rfl ?_
        refine g_iload_n C dL_law_108 rfl ?_
        refine g_iconst C (nI 3) dL_law_109 (by decide) ?_
        refine g_iadd C dL_law_110 ?_
        refine g_sld C hX hbl hbA hL (4 * k + 3) (nI_add _ _) (by omega) dL_law_111 ?_
        refine l_call1 C (wf := XW o q tt) (mX_change W hf (x := xs (4 * k + 1)) (r := xs (4 * k + 2)) (v := xs (4 * k + 3))) (ci := 0) rfl (XW_obj _ _ _ _) (cwV 3 C.2.2.2.2.1 (lw_V q82 q83 q84 q15 q85) rfl rfl rfl (by decide +kernel) ⟨by decide, by decide⟩) dL_law_112 (Nat.le_of_ble_eq_true rfl) ⟨by decide, by decide⟩ rfl (fun y z hy => ?_)
        obtain ⟨rfl, rfl⟩ := hy
        refine g_aload_n C dL_law_115 rfl ?_
        refine g_aload_n C dL_law_116 rfl ?_
        refine g_iload_n C dL_law_117 rfl ?_
        refine g_iconst C 1 dL_law_118 (by decide) ?_
        refine g_iadd C dL_law_119 ?_
        refine g_sld C hX hbl hbA hL (4 * k + 1) (nI_1 _) (by omega) dL_law_120 ?_
        refine g_aload_n C dL_law_121 rfl ?_
        refine g_iload_n C dL_law_122 rfl ?_
        refine g_iconst C (nI 2) dL_law_123 (by decide) ?_
        refine g_iadd C dL_law_124 ?_
        refine g_sld C hX hbl hbA hL (4 * k + 2) (nI_add _ _) (by omega) dL_law_125 ?_
        refine g_aload_n C dL_law_126 rfl ?_
        refine g_iload_n C dL_law_127 rfl ?_
        refine g_iconst C (nI 3) dL_law_128 (by decide) ?_
        refine g_iadd C dL_law_129 ?_
        refine g_sld C hX hbl hbA hL (4 * k + 3) (nI_add _ _) (by omega) dL_law_130 ?_
        refine l_call2 C (wf := MW o' q' tt') (mM_change hN hN5 WM (x := xs (4 * k + 1)) (r := xs (4 * k + 2)) (v := xs (4 * k + 3))) (ci := 1) rfl (MW_obj _ _ _ _) (cwV 3 C.2.2.2.2.1 (lw_V q214 q215 q216 q16 q217) rfl rfl rfl (by decide +kernel) ⟨by decide, by decide⟩) dL_law_131 (Nat.le_of_ble_eq_true rfl) ⟨by decide, by decide⟩ rfl (fun y z hy => ?_)
        obtain ⟨rfl, rfl⟩ := hy
        refine g_icmp_eq C 392 dL_law_134 (by decide) (fun h => ?_) (fun h => ?_)
        · exact J392 _ _ (Och k u v N (xs (4 * k + 1)) (xs (4 * k + 2)) (xs (4 * k + 3)) hR hk64 hN hNk).2
        · exact absurd (Och k u v N (xs (4 * k + 1)) (xs (4 * k + 2)) (xs (4 * k + 3)) hR hk64 hN hNk).1 h
      · refine g_tableIn C 139 dL_law_32 (by decide) (by decide) rfl (by decide) ?_
        refine g_aload_n C dL_law_139 rfl ?_
        refine g_aload_n C dL_law_140 rfl ?_
        refine g_iload_n C dL_law_141 rfl ?_
        refine g_iconst C 1 dL_law_142 (by decide) ?_
        refine g_iadd C dL_law_143 ?_
        refine g_sld C hX hbl hbA hL (4 * k + 1) (nI_1 _) (by omega) dL_law_144 ?_
        refine l_call1 C (wf := XW o q tt) (mX_commit W (x := xs (4 * k + 1))) (ci := 0) rfl (XW_obj _ _ _ _) (cwV 1 C.2.2.2.2.1 (lw_V q120 q121 q122 q15 q123) rfl rfl rfl (by decide +kernel) ⟨by decide, by decide⟩) dL_law_145 (Nat.le_of_ble_eq_true rfl) ⟨by decide, by decide⟩ rfl (fun y z hy => ?_)
        obtain ⟨rfl, rfl⟩ := hy
        refine g_aload_n C dL_law_148 rfl ?_
        refine g_aload_n C dL_law_149 rfl ?_
        refine g_iload_n C dL_law_150 rfl ?_
        refine g_iconst C 1 dL_law_151 (by decide) ?_
        refine g_iadd C dL_law_152 ?_
        refine g_sld C hX hbl hbA hL (4 * k + 1) (nI_1 _) (by omega) dL_law_153 ?_
        refine l_call2 C (wf := MW o' q' tt') (mM_commit hN hN5 (x := xs (4 * k + 1))) (ci := 1) rfl (MW_obj _ _ _ _) (cwV 1 C.2.2.2.2.1 (lw_V q234 q235 q236 q16 q237) rfl rfl rfl (by decide +kernel) ⟨by decide, by decide⟩) dL_law_154 (Nat.le_of_ble_eq_true rfl) ⟨by decide, by decide⟩ rfl (fun y z hy => ?_)
        obtain ⟨rfl, rfl⟩ := hy
        refine g_icmp_eq C 392 dL_law_157 (by decide) (fun h => ?_) (fun h => ?_)
        · exact J392 _ _ (Oco k u v N (xs (4 * k + 1)) hR hk64 hN hNk).2
        · exact absurd (Oco k u v N (xs (4 * k + 1)) hR hk64 hN hNk).1 h
      · refine g_tableIn C 162 dL_law_32 (by decide) (by decide) rfl (by decide) ?_
        refine g_aload_n C dL_law_162 rfl ?_
        refine g_aload_n C dL_law_163 rfl ?_
        refine g_iload_n C dL_law_164 rfl ?_
        refine g_iconst C 1 dL_law_165 (by decide) ?_
        refine g_iadd C dL_law_166 ?_
        refine g_sld C hX hbl hbA hL (4 * k + 1) (nI_1 _) (by omega) dL_law_167 ?_
        refine l_call1 C (wf := XW o q tt) (mX_rollback W (x := xs (4 * k + 1))) (ci := 0) rfl (XW_obj _ _ _ _) (cwV 1 C.2.2.2.2.1 (lw_V q124 q125 q126 q15 q127) rfl rfl rfl (by decide +kernel) ⟨by decide, by decide⟩) dL_law_168 (Nat.le_of_ble_eq_true rfl) ⟨by decide, by decide⟩ rfl (fun y z hy => ?_)
        obtain ⟨rfl, rfl⟩ := hy
        refine g_aload_n C dL_law_171 rfl ?_
        refine g_aload_n C dL_law_172 rfl ?_
        refine g_iload_n C dL_law_173 rfl ?_
        refine g_iconst C 1 dL_law_174 (by decide) ?_
        refine g_iadd C dL_law_175 ?_
        refine g_sld C hX hbl hbA hL (4 * k + 1) (nI_1 _) (by omega) dL_law_176 ?_
        refine l_call2 C (wf := MW o' q' tt') (mM_rollback hN hN5 WM (x := xs (4 * k + 1))) (ci := 1) rfl (MW_obj _ _ _ _) (cwV 1 C.2.2.2.2.1 (lw_V q246 q247 q248 q16 q249) rfl rfl rfl (by decide +kernel) ⟨by decide, by decide⟩) dL_law_177 (Nat.le_of_ble_eq_true rfl) ⟨by decide, by decide⟩ rfl (fun y z hy => ?_)
        obtain ⟨rfl, rfl⟩ := hy
        refine g_icmp_eq C 392 dL_law_180 (by decide) (fun h => ?_) (fun h => ?_)
        · exact J392 _ _ (Orb k u v N (xs (4 * k + 1)) hR hk64 hN hNk).2
        · exact absurd (Orb k u v N (xs (4 * k + 1)) hR hk64 hN hNk).1 h
      · refine g_tableIn C 185 dL_law_32 (by decide) (by decide) rfl (by decide) ?_
        refine g_aload_n C dL_law_185 rfl ?_
        refine l_call1 C (wf := XW o q tt) (mX_clock) (ci := 0) rfl (XW_obj _ _ _ _) (cwV 0 C.2.2.2.2.1 (lw_V q128 q129 q130 q15 q131) rfl rfl rfl (by decide +kernel) ⟨by decide, by decide⟩) dL_law_186 (Nat.le_of_ble_eq_true rfl) ⟨by decide, by decide⟩ rfl (fun y z hy => ?_)
        obtain ⟨rfl, rfl⟩ := hy
        refine g_aload_n C dL_law_189 rfl ?_
        refine l_call2 C (wf := MW o' q' tt') (mM_clock) (ci := 1) rfl (MW_obj _ _ _ _) (cwV 0 C.2.2.2.2.1 (lw_V q250 q251 q252 q16 q253) rfl rfl rfl (by decide +kernel) ⟨by decide, by decide⟩) dL_law_190 (Nat.le_of_ble_eq_true rfl) ⟨by decide, by decide⟩ rfl (fun y z hy => ?_)
        obtain ⟨rfl, rfl⟩ := hy
        refine g_icmp_eq C 392 dL_law_193 (by decide) (fun h => ?_) (fun h => ?_)
        · exact J392 u v (Omono k u v hR)
        · exact absurd (Qcl ) h
      · refine g_tableIn C 198 dL_law_32 (by decide) (by decide) rfl (by decide) ?_
        refine g_aload_n C dL_law_198 rfl ?_
        refine g_aload_n C dL_law_199 rfl ?_
        refine g_iload_n C dL_law_200 rfl ?_
        refine g_iconst C 1 dL_law_201 (by decide) ?_
        refine g_iadd C dL_law_202 ?_
        refine g_sld C hX hbl hbA hL (4 * k + 1) (nI_1 _) (by omega) dL_law_203 ?_
        refine g_aload_n C dL_law_204 rfl ?_
        refine g_iload_n C dL_law_205 rfl ?_
        refine g_iconst C (nI 2) dL_law_206 (by decide) ?_
        refine g_iadd C dL_law_207 ?_
        refine g_sld C hX hbl hbA hL (4 * k + 2) (nI_add _ _) (by omega) dL_law_208 ?_
        refine g_aload_n C dL_law_209 rfl ?_
        refine g_iload_n C dL_law_210 rfl ?_
        refine g_iconst C (nI 3) dL_law_211 (by decide) ?_
        refine g_iadd C dL_law_212 ?_
        refine g_sld C hX hbl hbA hL (4 * k + 3) (nI_add _ _) (by omega) dL_law_213 ?_
        refine l_call1 C (wf := XW o q tt) (mX_read W (x := xs (4 * k + 1)) (r := xs (4 * k + 2)) (t := xs (4 * k + 3))) (ci := 0) rfl (XW_obj _ _ _ _) (cwV 3 C.2.2.2.2.1 (lw_V q132 q133 q134 q15 q135) rfl rfl rfl (by decide +kernel) ⟨by decide, by decide⟩) dL_law_214 (Nat.le_of_ble_eq_true rfl) ⟨by decide, by decide⟩ rfl (fun y z hy => ?_)
        obtain ⟨rfl, rfl⟩ := hy
        refine g_aload_n C dL_law_217 rfl ?_
        refine g_aload_n C dL_law_218 rfl ?_
        refine g_iload_n C dL_law_219 rfl ?_
        refine g_iconst C 1 dL_law_220 (by decide) ?_
        refine g_iadd C dL_law_221 ?_
        refine g_sld C hX hbl hbA hL (4 * k + 1) (nI_1 _) (by omega) dL_law_222 ?_
        refine g_aload_n C dL_law_223 rfl ?_
        refine g_iload_n C dL_law_224 rfl ?_
        refine g_iconst C (nI 2) dL_law_225 (by decide) ?_
        refine g_iadd C dL_law_226 ?_
        refine g_sld C hX hbl hbA hL (4 * k + 2) (nI_add _ _) (by omega) dL_law_227 ?_
        refine g_aload_n C dL_law_228 rfl ?_
        refine g_iload_n C dL_law_229 rfl ?_
        refine g_iconst C (nI 3) dL_law_230 (by decide) ?_
        refine g_iadd C dL_law_231 ?_
        refine g_sld C hX hbl hbA hL (4 * k + 3) (nI_add _ _) (by omega) dL_law_232 ?_
        refine l_call2 C (wf := MW o' q' tt') (mM_read hN hN5 (x := xs (4 * k + 1)) (r := xs (4 * k + 2)) (t := xs (4 * k + 3))) (ci := 1) rfl (MW_obj _ _ _ _) (cwV 3 C.2.2.2.2.1 (lw_V q254 q255 q256 q16 q257) rfl rfl rfl (by decide +kernel) ⟨by decide, by decide⟩) dL_law_233 (Nat.le_of_ble_eq_true rfl) ⟨by decide, by decide⟩ rfl (fun y z hy => ?_)
        obtain ⟨rfl, rfl⟩ := hy
        refine g_icmp_eq C 392 dL_law_236 (by decide) (fun h => ?_) (fun h => ?_)
        · exact J392 u v (Omono k u v hR)
        · exact absurd (Qread (xs (4 * k + 1)) (xs (4 * k + 2)) (xs (4 * k + 3))) h
      · refine g_tableIn C 241 dL_law_32 (by decide) (by decide) rfl (by decide) ?_
        refine g_aload_n C dL_law_241 rfl ?_
        refine g_aload_n C dL_law_242 rfl ?_
        refine g_iload_n C dL_law_243 rfl ?_
        refine g_iconst C 1 dL_law_244 (by decide) ?_
        refine g_iadd C dL_law_245 ?_
        refine g_sld C hX hbl hbA hL (4 * k + 1) (nI_1 _) (by omega) dL_law_246 ?_
        refine l_call1 C (wf := XW o q tt) (mX_raw (x := xs (4 * k + 1))) (ci := 0) rfl (XW_obj _ _ _ _) (cwV 1 C.2.2.2.2.1 (lw_V q145 q146 q147 q15 q148) rfl rfl rfl (by decide +kernel) ⟨by decide, by decide⟩) dL_law_247 (Nat.le_of_ble_eq_true rfl) ⟨by decide, by decide⟩ rfl (fun y z hy => ?_)
        obtain ⟨rfl, rfl⟩ := hy
        refine g_aload_n C dL_law_250 rfl ?_
        refine g_aload_n C dL_law_251 rfl ?_
        refine g_iload_n C dL_law_252 rfl ?_
        refine g_iconst C 1 dL_law_253 (by decide) ?_
        refine g_iadd C dL_law_254 ?_
        refine g_sld C hX hbl hbA hL (4 * k + 1) (nI_1 _) (by omega) dL_law_255 ?_
        refine l_call2 C (wf := MW o' q' tt') (mM_raw (x := xs (4 * k + 1))) (ci := 1) rfl (MW_obj _ _ _ _) (cwV 1 C.2.2.2.2.1 (lw_V q263 q264 q265 q16 q266) rfl rfl rfl (by decide +kernel) ⟨by decide, by decide⟩) dL_law_256 (Nat.le_of_ble_eq_true rfl) ⟨by decide, by decide⟩ rfl (fun y z hy => ?_)
        obtain ⟨rfl, rfl⟩ := hy
        refine g_icmp_eq C 392 dL_law_259 (by decide) (fun h => ?_) (fun h => ?_)
        · exact J392 u v (Omono k u v hR)
        · exact absurd (Qraw (xs (4 * k + 1))) h
      · refine g_tableIn C 264 dL_law_32 (by decide) (by decide) rfl (by decide) ?_
        refine g_aload_n C dL_law_264 rfl ?_
        refine g_aload_n C dL_law_265 rfl ?_
        refine g_iload_n C dL_law_266 rfl ?_
        refine g_iconst C 1 dL_law_267 (by decide) ?_
        refine g_iadd C dL_law_268 ?_
        refine g_sld C hX hbl hbA hL (4 * k + 1) (nI_1 _) (by omega) dL_law_269 ?_
        refine l_call1 C (wf := XW o q tt) (mX_holder W (x := xs (4 * k + 1))) (ci := 0) rfl (XW_obj _ _ _ _) (cwV 1 C.2.2.2.2.1 (lw_V q149 q150 q151 q15 q152) rfl rfl rfl (by decide +kernel) ⟨by decide, by decide⟩) dL_law_270 (Nat.le_of_ble_eq_true rfl) ⟨by decide, by decide⟩ rfl (fun y z hy => ?_)
        obtain ⟨rfl, rfl⟩ := hy
        refine g_aload_n C dL_law_273 rfl ?_
        refine g_aload_n C dL_law_274 rfl ?_
        refine g_iload_n C dL_law_275 rfl ?_
        refine g_iconst C 1 dL_law_276 (by decide) ?_
        refine g_iadd C dL_law_277 ?_
        refine g_sld C hX hbl hbA hL (4 * k + 1) (nI_1 _) (by omega) dL_law_278 ?_
        refine l_call2 C (wf := MW o' q' tt') (mM_holder (x := xs (4 * k + 1))) (ci := 1) rfl (MW_obj _ _ _ _) (cwV 1 C.2.2.2.2.1 (lw_V q267 q268 q269 q16 q270) rfl rfl rfl (by decide +kernel) ⟨by decide, by decide⟩) dL_law_279 (Nat.le_of_ble_eq_true rfl) ⟨by decide, by decide⟩ rfl (fun y z hy => ?_)
        obtain ⟨rfl, rfl⟩ := hy
        refine g_icmp_eq C 392 dL_law_282 (by decide) (fun h => ?_) (fun h => ?_)
        · exact J392 u v (Omono k u v hR)
        · exact absurd (Qhold (xs (4 * k + 1))) h
      · refine g_tableIn C 287 dL_law_32 (by decide) (by decide) rfl (by decide) ?_
        refine g_aload_n C dL_law_287 rfl ?_
        refine g_aload_n C dL_law_288 rfl ?_
        refine g_iload_n C dL_law_289 rfl ?_
        refine g_iconst C 1 dL_law_290 (by decide) ?_
        refine g_iadd C dL_law_291 ?_
        refine g_sld C hX hbl hbA hL (4 * k + 1) (nI_1 _) (by omega) dL_law_292 ?_
        refine l_call1 C (wf := XW o q tt) (mX_locks W (x := xs (4 * k + 1))) (ci := 0) rfl (XW_obj _ _ _ _) (cwV 1 C.2.2.2.2.1 (lw_V q153 q154 q155 q15 q156) rfl rfl rfl (by decide +kernel) ⟨by decide, by decide⟩) dL_law_293 (Nat.le_of_ble_eq_true rfl) ⟨by decide, by decide⟩ rfl (fun y z hy => ?_)
        obtain ⟨rfl, rfl⟩ := hy
        refine g_aload_n C dL_law_296 rfl ?_
        refine g_aload_n C dL_law_297 rfl ?_
        refine g_iload_n C dL_law_298 rfl ?_
        refine g_iconst C 1 dL_law_299 (by decide) ?_
        refine g_iadd C dL_law_300 ?_
        refine g_sld C hX hbl hbA hL (4 * k + 1) (nI_1 _) (by omega) dL_law_301 ?_
        refine l_call2 C (wf := MW o' q' tt') (mM_locks (x := xs (4 * k + 1))) (ci := 1) rfl (MW_obj _ _ _ _) (cwV 1 C.2.2.2.2.1 (lw_V q271 q272 q273 q16 q274) rfl rfl rfl (by decide +kernel) ⟨by decide, by decide⟩) dL_law_302 (Nat.le_of_ble_eq_true rfl) ⟨by decide, by decide⟩ rfl (fun y z hy => ?_)
        obtain ⟨rfl, rfl⟩ := hy
        refine g_icmp_eq C 392 dL_law_305 (by decide) (fun h => ?_) (fun h => ?_)
        · exact J392 u v (Omono k u v hR)
        · exact absurd (Qlocks (xs (4 * k + 1))) h
      · refine g_tableIn C 310 dL_law_32 (by decide) (by decide) rfl (by decide) ?_
        refine g_aload_n C dL_law_310 rfl ?_
        refine l_call1 C (wf := XW o q tt) (mX_remembered) (ci := 0) rfl (XW_obj _ _ _ _) (cwV 0 C.2.2.2.2.1 (lw_V q157 q158 q159 q15 q160) rfl rfl rfl (by decide +kernel) ⟨by decide, by decide⟩) dL_law_311 (Nat.le_of_ble_eq_true rfl) ⟨by decide, by decide⟩ rfl (fun y z hy => ?_)
        obtain ⟨rfl, rfl⟩ := hy
        refine g_aload_n C dL_law_314 rfl ?_
        refine l_call2 C (wf := MW o' q' tt') (mM_remembered hN hN5) (ci := 1) rfl (MW_obj _ _ _ _) (cwV 0 C.2.2.2.2.1 (lw_V q275 q227 q228 q16 q229) rfl rfl rfl (by decide +kernel) ⟨by decide, by decide⟩) dL_law_315 (Nat.le_of_ble_eq_true rfl) ⟨by decide, by decide⟩ rfl (fun y z hy => ?_)
        obtain ⟨rfl, rfl⟩ := hy
        refine g_icmp_eq C 392 dL_law_318 (by decide) (fun h => ?_) (fun h => ?_)
        · exact J392 u v (Omono k u v hR)
        · exact absurd (Qrem ) h
      · refine g_tableIn C 323 dL_law_32 (by decide) (by decide) rfl (by decide) ?_
        refine g_aload_n C dL_law_323 rfl ?_
        refine g_aload_n C dL_law_324 rfl ?_
        refine g_iload_n C dL_law_325 rfl ?_
        refine g_iconst C 1 dL_law_326 (by decide) ?_
        refine g_iadd C dL_law_327 ?_
        refine g_sld C hX hbl hbA hL (4 * k + 1) (nI_1 _) (by omega) dL_law_328 ?_
        refine l_call1 C (wf := XW o q tt) (mX_changes W (x := xs (4 * k + 1))) (ci := 0) rfl (XW_obj _ _ _ _) (cwV 1 C.2.2.2.2.1 (lw_V q161 q162 q163 q15 q164) rfl rfl rfl (by decide +kernel) ⟨by decide, by decide⟩) dL_law_329 (Nat.le_of_ble_eq_true rfl) ⟨by decide, by decide⟩ rfl (fun y z hy => ?_)
        obtain ⟨rfl, rfl⟩ := hy
        refine g_aload_n C dL_law_332 rfl ?_
        refine g_aload_n C dL_law_333 rfl ?_
        refine g_iload_n C dL_law_334 rfl ?_
        refine g_iconst C 1 dL_law_335 (by decide) ?_
        refine g_iadd C dL_law_336 ?_
        refine g_sld C hX hbl hbA hL (4 * k + 1) (nI_1 _) (by omega) dL_law_337 ?_
        refine l_call2 C (wf := MW o' q' tt') (mM_changes hN hN5 (x := xs (4 * k + 1))) (ci := 1) rfl (MW_obj _ _ _ _) (cwV 1 C.2.2.2.2.1 (lw_V q276 q239 q240 q16 q241) rfl rfl rfl (by decide +kernel) ⟨by decide, by decide⟩) dL_law_338 (Nat.le_of_ble_eq_true rfl) ⟨by decide, by decide⟩ rfl (fun y z hy => ?_)
        obtain ⟨rfl, rfl⟩ := hy
        refine g_icmp_eq C 392 dL_law_341 (by decide) (fun h => ?_) (fun h => ?_)
        · exact J392 u v (Omono k u v hR)
        · exact absurd (Qchg (xs (4 * k + 1))) h
      · refine g_tableIn C 346 dL_law_32 (by decide) (by decide) rfl (by decide) ?_
        refine g_aload_n C dL_law_346 rfl ?_
        refine g_aload_n C dL_law_347 rfl ?_
        refine g_iload_n C dL_law_348 rfl ?_
        refine g_iconst C 1 dL_law_349 (by decide) ?_
        refine g_iadd C dL_law_350 ?_
        refine g_sld C hX hbl hbA hL (4 * k + 1) (nI_1 _) (by omega) dL_law_351 ?_
        refine l_call1 C (wf := XW o q tt) (mX_oldest (x := xs (4 * k + 1))) (ci := 0) rfl (XW_obj _ _ _ _) (cwV 1 C.2.2.2.2.1 (lw_V q165 q166 q167 q15 q168) rfl rfl rfl (by decide +kernel) ⟨by decide, by decide⟩) dL_law_352 (Nat.le_of_ble_eq_true rfl) ⟨by decide, by decide⟩ rfl (fun y z hy => ?_)
        obtain ⟨rfl, rfl⟩ := hy
        refine g_aload_n C dL_law_355 rfl ?_
        refine g_aload_n C dL_law_356 rfl ?_
        refine g_iload_n C dL_law_357 rfl ?_
        refine g_iconst C 1 dL_law_358 (by decide) ?_
        refine g_iadd C dL_law_359 ?_
        refine g_sld C hX hbl hbA hL (4 * k + 1) (nI_1 _) (by omega) dL_law_360 ?_
        refine l_call2 C (wf := MW o' q' tt') (mM_oldest (x := xs (4 * k + 1))) (ci := 1) rfl (MW_obj _ _ _ _) (cwV 1 C.2.2.2.2.1 (lw_V q277 q278 q279 q16 q280) rfl rfl rfl (by decide +kernel) ⟨by decide, by decide⟩) dL_law_361 (Nat.le_of_ble_eq_true rfl) ⟨by decide, by decide⟩ rfl (fun y z hy => ?_)
        obtain ⟨rfl, rfl⟩ := hy
        refine g_icmp_eq C 392 dL_law_364 (by decide) (fun h => ?_) (fun h => ?_)
        · exact J392 u v (Omono k u v hR)
        · exact absurd (Qold (xs (4 * k + 1))) h
      · refine g_tableIn C 369 dL_law_32 (by decide) (by decide) rfl (by decide) ?_
        refine g_aload_n C dL_law_369 rfl ?_
        refine g_aload_n C dL_law_370 rfl ?_
        refine g_iload_n C dL_law_371 rfl ?_
        refine g_iconst C 1 dL_law_372 (by decide) ?_
        refine g_iadd C dL_law_373 ?_
        refine g_sld C hX hbl hbA hL (4 * k + 1) (nI_1 _) (by omega) dL_law_374 ?_
        refine l_call1 C (wf := XW o q tt) (mX_changedSince W (t := xs (4 * k + 1))) (ci := 0) rfl (XW_obj _ _ _ _) (cwV 1 C.2.2.2.2.1 (lw_V q169 q170 q171 q15 q172) rfl rfl rfl (by decide +kernel) ⟨by decide, by decide⟩) dL_law_375 (Nat.le_of_ble_eq_true rfl) ⟨by decide, by decide⟩ rfl (fun y z hy => ?_)
        obtain ⟨rfl, rfl⟩ := hy
        refine g_aload_n C dL_law_378 rfl ?_
        refine g_aload_n C dL_law_379 rfl ?_
        refine g_iload_n C dL_law_380 rfl ?_
        refine g_iconst C 1 dL_law_381 (by decide) ?_
        refine g_iadd C dL_law_382 ?_
        refine g_sld C hX hbl hbA hL (4 * k + 1) (nI_1 _) (by omega) dL_law_383 ?_
        refine l_call2 C (wf := MW o' q' tt') (mM_changedSince hN hN5 (t := xs (4 * k + 1))) (ci := 1) rfl (MW_obj _ _ _ _) (cwV 1 C.2.2.2.2.1 (lw_V q281 q282 q283 q16 q284) rfl rfl rfl (by decide +kernel) ⟨by decide, by decide⟩) dL_law_384 (Nat.le_of_ble_eq_true rfl) ⟨by decide, by decide⟩ rfl (fun y z hy => ?_)
        obtain ⟨rfl, rfl⟩ := hy
        refine g_icmp_eq C 392 dL_law_387 (by decide) (fun h => ?_) (fun h => ?_)
        · exact J392 u v (Omono k u v hR)
        · exact absurd (Qchs (xs (4 * k + 1))) h
      · refine g_tableOut C 392 dL_law_32 (Or.inr (by rw [nI_toInt (by omega)]; omega)) (by decide) ?_
        exact J392 u v (Omono k u v hR)
end
section
set_option maxHeartbeats 4000000 in
set_option maxRecDepth 100000 in
theorem whole_of {Rel : Nat → Mem → Mem → Prop} (OK : OpsOK Rel) (h0 : Rel 0 u0X u0M) {p : Program} {e : Env} {s : State} {m : MethodId} {below : List Frame} {meth : Method} {c : Code} (l : Launch) {b L : Nat} {xs : Nat → Int32} (hL : L ≤ 256) (C0 : lw_At p s m meth c b L xs) : W p l e room_1 s m #[Value.ref b] below meth c s.heap [] 0 0 (lw_Z below #[Value.ref b] s) (entryFrame m ([Value.ref b] : List Value).toArray 4) := by
  obtain ⟨hx, hb, hr, hml, hown, hts0, hX, hbl, hlocks, hgv⟩ := id C0
  have hts : ∀ w ∈ lw_all, w.before #[Value.ref b] s = true := fun w h => hts0 w (lw_all_tbl h)
  have hA : ∀ q : Nat, s.heap.size ≤ q → (fun q : Nat => s.heap.size ≤ q) q := fun _ h => h
  obtain ⟨c0, iS0, hKn0⟩ := u_known (C := RX0) (T := TX0) (N := 18) (n := 18) hts0 (fun w h => lw_all_tbl (in_X0 w h)) (hts _ q18)
  obtain ⟨c1, iS1, hKn1⟩ := u_known (C := RX1) (T := TX1) (N := 11) (n := 11) hts0 (fun w h => lw_all_tbl (in_X1 w h)) (hts _ q174)
  obtain ⟨dC, dI, hKc⟩ : ∃ (dC : Nat → ClassId) (dI : Nat → Nat → Nat), ∀ (k : Nat) (q : vw_C), vwCl[k]? = some q → u_Kn s q.1 q.2.1 q.2.2 (dC k) (dI k) := by
    refine ⟨fun k => if k = 0 then c0 else c1, fun k => if k = 0 then iS0 else iS1, ?_⟩
    intro k q hq
    match k, hq with
    | 0, hq => cases hq; exact hKn0
    | 1, hq => cases hq; exact hKn1
    | k + 2, hq => simp [vwCl] at hq
  have hS : va_S (fun q : Nat => s.heap.size ≤ q) s.heap s.heap [] := va_S.rf
  have hK : va_K (dC, dI) vwCl [] s := ⟨hKc, fun k q h => by simp at h⟩
  have hP : va_P (dC, dI) vwCl [] s.heap := fun k q h => by simp at h
  have hD : va_D (fun q : Nat => s.heap.size ≤ q) [] := ⟨fun i j p q h => by simp at h, fun k q h => by simp at h⟩
  have hl := lo_entry (vs := [.ref b]) (nL := 4) (k := 3) (Nat.le_of_ble_eq_true rfl) rfl (List.forall_mem_cons.mpr ⟨rfl, fun _ h => absurd h List.not_mem_nil⟩)
  rw [lg_entry_eq]
  generalize (lg_sl ([.ref b]) ++ List.replicate (4 - (lg_sl ([.ref b])).length) Slot.unset).toArray = ls at hl ⊢
  refine va_new (ci := 0) (fs := f0X) (C := RX0) (T := TX0) (N := 18) hx hb hts in_X0 tyX0 tyX0_ok hown (hts _ q17) (hts _ q18) (hts _ q15) hK hP hD hS hA rfl (fun j hj => by rcases (show j = 0 ∨ j = 1 ∨ j = 2 ∨ j = 3 ∨ j = 4 ∨ j = 5 ∨ j = 6 ∨ j = 7 ∨ j = 8 ∨ j = 9 ∨ j = 10 ∨ j = 11 ∨ j = 12 ∨ j = 13 ∨ j = 14 ∨ j = 15 ∨ j = 16 ∨ j = 17 by omega) with rfl | rfl | rfl | rfl | rfl | rfl | rfl | rfl | rfl | rfl | rfl | rfl | rfl | rfl | rfl | rfl | rfl | rfl <;> rfl) (Nat.le_of_ble_eq_true rfl) (Nat.le_of_ble_eq_true rfl) dL_law_0 (fun o H hP hD hS => ?_)
  have hP : va_P (dC, dI) vwCl [(o, .inr (0, f0X))] H := hP
  have hD : va_D (fun q : Nat => s.heap.size ≤ q) [(o, .inr (0, f0X))] := hD
  refine W.widen (k := 1) (n := 18) (Nat.le_of_ble_eq_true rfl) (Nat.le_of_ble_eq_true rfl) ?_
  refine lv_dup hx hb dL_law_3 rfl ?_
  have hF : ∀ q, va_A [(o, .inr (0, f0X))] H.size q → s.heap.size ≤ q := fun q h => by
    rcases h with ⟨k, e, h⟩ | h
    · exact hD.2 k (q, e) h
    · exact Nat.le_trans hS.1 h
  refine va_callv (va_runI (As := []) (rest := [.ref o]) (b := o) ⟨hx, hb, hml, hown, hts⟩ (mX_init l H.size) (cwI 0 hts (lw_meth q21) rfl rfl rfl (hts _ q15) (hts _ q19) (hts _ q20) rfl (by decide +kernel) ⟨Nat.le_of_ble_eq_true rfl, Nat.le_of_ble_eq_true rfl⟩) ⟨Wpre.blind, fun U hU hW => ⟨rfl, by rw [hU], by rw [hU]; exact hP, va_K.moved hW.alike hK, hD.weaken (fun _ _ _ _ => trivial)⟩⟩ rfl rfl hl.1 rfl (lv_room (Nat.le_of_ble_eq_true rfl)) dL_law_4 ⟨Nat.le_of_ble_eq_true rfl, Nat.le_of_ble_eq_true rfl⟩) hS (fun q _ h => hF q h) hF (fun z t H1 locs ht hvm hw hB hz1 hk1 hS => ?_)
  obtain ⟨q, tt⟩ := z
  obtain ⟨hP1, hK1, hD1⟩ := hB
  rw [ht] at hP1
  have hK := va_K.moved hvm.symm hK1
  have hP : va_P (dC, dI) vwCl (XW o q tt u0X) H1 := hP1
  have hD : va_D (fun q : Nat => s.heap.size ≤ q) (XW o q tt u0X) := hD1.weaken (fun k q _ h => hF q.1 h)
  have hK : va_K (dC, dI) vwCl (XK tt) s := hK
  clear hF hP1 hK1 hD1 hk1 hz1 hw
  refine W.widen (k := 13) (n := 254) (Nat.le_of_ble_eq_true rfl) (Nat.le_of_ble_eq_true rfl) ?_
  refine lv_astore_n hx hb dL_law_7 rfl (lo_lv hl) (by decide) rfl (fun ls h => ?_)
  have hl := lo_put hl rfl h
  refine va_new (ci := 1) (fs := f0M) (C := RX1) (T := TX1) (N := 11) hx hb hts in_X1 tyX1 tyX1_ok hown (hts _ q173) (hts _ q174) (hts _ q16) hK hP hD hS hA rfl (fun j hj => by rcases (show j = 0 ∨ j = 1 ∨ j = 2 ∨ j = 3 ∨ j = 4 ∨ j = 5 ∨ j = 6 ∨ j = 7 ∨ j = 8 ∨ j = 9 ∨ j = 10 by omega) with rfl | rfl | rfl | rfl | rfl | rfl | rfl | rfl | rfl | rfl | rfl <;> rfl) (Nat.le_of_ble_eq_true rfl) (Nat.le_of_ble_eq_true rfl) dL_law_8 (fun o' H hP hD hS => ?_)
  refine W.widen (k := 14) (n := 265) (Nat.le_of_ble_eq_true rfl) (Nat.le_of_ble_eq_true rfl) ?_
  refine lv_dup hx hb dL_law_11 rfl ?_
  obtain ⟨hPr, hPc⟩ := split_P hP
  obtain ⟨hDr, hDc, hap⟩ := split_D hD
  have hKe : va_K (dC, dI) vwCl [] s := ⟨hK.1, fun k q h => by simp at h⟩
  have hF : ∀ q, va_A [(o', .inr (1, f0M))] H.size q → s.heap.size ≤ q := fun q h => by
    rcases h with ⟨k, e, h⟩ | h
    · exact hDc.2 k (q, e) h
    · exact Nat.le_trans hS.1 h
  refine va_callv (va_runI (As := []) (rest := [.ref o']) (b := o') ⟨hx, hb, hml, hown, hts⟩ (mM_init l H.size) (cwI 0 hts (lw_meth q177) rfl rfl rfl (hts _ q16) (hts _ q175) (hts _ q176) rfl (by decide +kernel) ⟨Nat.le_of_ble_eq_true rfl, Nat.le_of_ble_eq_true rfl⟩) ⟨Wpre.blind, fun U hU hW => ⟨rfl, by rw [hU], by rw [hU]; exact hPc, va_K.moved hW.alike hKe, hDc.weaken (fun _ _ _ _ => trivial)⟩⟩ rfl rfl hl.1 rfl (lv_room (Nat.le_of_ble_eq_true rfl)) dL_law_12 ⟨Nat.le_of_ble_eq_true rfl, Nat.le_of_ble_eq_true rfl⟩) hS (fun q _ h => hF q h) hF (fun z t H1 locs ht hvm hw hB hz1 hk1 hS => ?_)
  obtain ⟨q', tt'⟩ := z
  obtain ⟨hP1, hK1, hD1⟩ := hB
  rw [ht] at hP1
  have hK1 := va_K.moved hvm.symm hK1
  obtain ⟨hPk, hn⟩ := keep_P hPr (fun i j x y hx hy e => hap j i y x hy hx e.symm) hk1
  have hP : va_P (dC, dI) vwCl (XW o q tt u0X ++ MW o' q' tt' u0M) H1 := hPk.app hP1
  have hD : va_D (fun q : Nat => s.heap.size ≤ q) (XW o q tt u0X ++ MW o' q' tt' u0M) := va_D.app hDr (hD1.weaken (fun k q _ h => hF q.1 h)) (fun i j x y hx hy e => hn i x hx (by rw [e]; exact hD1.2 j y hy))
  have hK : va_K (dC, dI) vwCl (XK tt ++ MK tt') s := hK.app hK1
  refine W.widen (k := 23) (n := 3361) (Nat.le_of_ble_eq_true rfl) (Nat.le_of_ble_eq_true rfl) ?_
  have C : Cx p s m #[Value.ref b] c (dC, dI) (fun q => s.heap.size ≤ q) cL_law 4 R_law (XK tt ++ MK tt') := ⟨hx, hb, hml, hown, hts, hK, fun _ h => h⟩
  suffices main : G p l e room_1 s m #[Value.ref b] below meth c (dC, dI) (fun q => s.heap.size ≤ q) 4 23 3361 (lw_Z below #[Value.ref b] s) (XW o q tt u0X ++ MW o' q' tt' u0M) 15 [some (.ref b), some (.ref o), none, none] [.ref o'] from main H1 _ ls hP hD hS hl
  refine g_astore_n C dL_law_15 (by decide) ?_
  refine g_iconst C 0 dL_law_16 (by decide) ?_
  refine g_istore_n C dL_law_17 (by decide) ?_
  exact law_loop OK hL C0 hK 65 0 u0X u0M (by omega) (by omega) h0
end
section
/-! bits of an Int32 (the b_ rows: pasted from the kit's BITS) -/
def bt (x : Int32) (i : Nat) : Bool := x.toBitVec.getLsbD i
theorem b_ext {x y : Int32} (h : ∀ i, i < 32 → bt x i = bt y i) : x = y := Int32.toBitVec_inj.mp (BitVec.eq_of_getLsbD_eq (fun i hi => h i hi))
theorem b_or (x y : Int32) (i : Nat) : bt (x ||| y) i = (bt x i || bt y i) := by unfold bt; rw [Int32.toBitVec_or, BitVec.getLsbD_or]
theorem b_and (x y : Int32) (i : Nat) : bt (x &&& y) i = (bt x i && bt y i) := by unfold bt; rw [Int32.toBitVec_and, BitVec.getLsbD_and]
theorem b_xor (x y : Int32) (i : Nat) : bt (x ^^^ y) i = (bt x i ^^ bt y i) := by unfold bt; rw [Int32.toBitVec_xor, BitVec.getLsbD_xor]
theorem b_big {x : Int32} {i : Nat} (h : 32 ≤ i) : bt x i = false := BitVec.getLsbD_of_ge _ _ h
theorem b_m1 : ∀ i, i < 32 → bt (-1) i = true := by decide +kernel
theorem b_0 (i : Nat) : bt 0 i = false := BitVec.getLsbD_zero
theorem s_l : ∀ n, n < 32 → ((nI n &&& 31).toBitVec.smod 32).toNat = n := by decide +kernel
theorem s_u : ∀ n, n < 32 → (((nI n).toUInt32 &&& Int32.toUInt32 31).toBitVec % 32).toNat = n := by decide +kernel
theorem b_shl (n : Nat) (hn : n < 32) (x : Int32) {i : Nat} (hi : i < 32) : bt (x <<< (nI n &&& 31)) i = (decide (n ≤ i) && bt x (i - n)) := by
  unfold bt
  rw [Int32.toBitVec_shiftLeft]
  show (x.toBitVec <<< ((nI n &&& 31).toBitVec.smod 32).toNat).getLsbD i = _
  rw [s_l n hn, BitVec.getLsbD_shiftLeft]
  rcases Nat.lt_or_ge i n with h | h
  · simp [h, Nat.not_le.mpr h]
  · simp [hi, h, Nat.not_lt.mpr h]
theorem b_ushr (n : Nat) (hn : n < 32) (x : Int32) (i : Nat) : bt ((x.toUInt32 >>> ((nI n).toUInt32 &&& Int32.toUInt32 31)).toInt32) i = bt x (n + i) := by
  show (x.toUInt32 >>> ((nI n).toUInt32 &&& Int32.toUInt32 31)).toBitVec.getLsbD i = x.toUInt32.toBitVec.getLsbD (n + i)
  rw [UInt32.toBitVec_shiftRight]
  show (x.toUInt32.toBitVec >>> (((nI n).toUInt32 &&& Int32.toUInt32 31).toBitVec % 32).toNat).getLsbD i = _
  rw [s_u n hn, BitVec.getLsbD_ushiftRight]
theorem b_sshr (n : Nat) (hn : n < 32) (x : Int32) {i : Nat} (hi : i < 32) : bt (x >>> (nI n &&& 31)) i = if n + i < 32 then bt x (n + i) else bt x 31 := by
  unfold bt
  rw [Int32.toBitVec_shiftRight]
  show (x.toBitVec.sshiftRight ((nI n &&& 31).toBitVec.smod 32).toNat).getLsbD i = _
  rw [s_l n hn, BitVec.getLsbD_sshiftRight, BitVec.msb_eq_getLsbD_last]
  simp [hi]
theorem b_1 : ∀ i, i < 32 → bt 1 i = decide (i = 0) := by decide +kernel
theorem b_bitm : ∀ k, k < 32 → ∀ i, i < 32 → bt (bitm k) i = decide (i = k) := by decide +kernel
theorem and1 (x : Int32) : (x &&& 1) = 0 ↔ bt x 0 = false := by
  constructor
  · intro h
    have h1 : bt (x &&& 1) 0 = bt 0 0 := by rw [h]
    rw [b_and, b_0, b_1 0 (by decide)] at h1
    simpa using h1
  · intro h
    apply b_ext
    intro i hi
    rw [b_and, b_0, b_1 i hi]
    by_cases e : i = 0
    · subst e
      simp [h]
    · simp [e]
theorem bit1 (w : Int32) {c : Nat} (hc : c < 32) : ((w >>> (nI c &&& 31)) &&& 1) = 0 ↔ bt w c = false := by
  rw [and1, b_sshr c hc w (by decide), if_pos (by omega), Nat.add_zero]
theorem bit1u (w : Int32) {c : Nat} (hc : c < 32) : ((w.toUInt32 >>> ((nI c).toUInt32 &&& Int32.toUInt32 31)).toInt32 &&& 1) = 0 ↔ bt w c = false := by
  rw [and1, b_ushr c hc w 0, Nat.add_zero]
theorem bt_set (w : Int32) {k i : Nat} (hk : k < 32) (hi : i < 32) : bt (w ||| bitm k) i = true ↔ bt w i = true ∨ i = k := by
  rw [b_or, b_bitm k hk i hi]
  simp
theorem bt_clr (w : Int32) {k i : Nat} (hk : k < 32) (hi : i < 32) : bt (w &&& (bitm k ^^^ (-1))) i = true ↔ bt w i = true ∧ i ≠ k := by
  rw [b_and, b_xor, b_bitm k hk i hi, b_m1 i hi]
  simp
end
section
/-! ===== lists of slots: first and last as numbers; chains ===== -/
theorem pk_ne {u : Mem} {k k' i : Nat} {x : Int32} (h : k' ≠ k) : pk u k i x k' = u k' := if_neg h
theorem pk_at {u : Mem} {k i : Nat} {x : Int32} : pk u k i x k = upd (u k) i x := if_pos rfl
def hdI : List Nat → Int32
  | [] => -1
  | s :: _ => nI s
def ltI (l : List Nat) : Int32 := hdI l.reverse
theorem ltI_nil : ltI [] = -1 := rfl
theorem ltI_app (l : List Nat) (s : Nat) : ltI (l ++ [s]) = nI s := by simp [ltI, hdI]
theorem ltI_cons (l : List Nat) (a s : Nat) : ltI (a :: (l ++ [s])) = nI s := ltI_app (a :: l) s
theorem hdI_app {l : List Nat} (h : l ≠ []) (m : List Nat) : hdI (l ++ m) = hdI l := by
  cases l with
  | nil => exact absurd rfl h
  | cons a t => rfl
theorem ltI_app' (l : List Nat) {m : List Nat} (h : m ≠ []) : ltI (l ++ m) = ltI m := by
  unfold ltI
  rw [List.reverse_append, hdI_app (by simpa using h)]
theorem lastE (l : List Nat) : l = [] ∨ ∃ l' s, l = l' ++ [s] := by
  rcases List.eq_nil_or_concat l with h | ⟨a, b, h⟩
  · exact Or.inl h
  · exact Or.inr ⟨a, b, by rw [h]; simp⟩
theorem hdI_neg {l : List Nat} (hl : ∀ s ∈ l, s < 24) : hdI l < 0 ↔ l = [] := by
  cases l with
  | nil => exact ⟨fun _ => rfl, fun _ => by decide⟩
  | cons a t => exact ⟨fun h => absurd h (nI_pos (by have := hl a List.mem_cons_self; omega)), fun h => by cases h⟩
theorem ltI_neg {l : List Nat} (hl : ∀ s ∈ l, s < 24) : ltI l < 0 ↔ l = [] := by
  unfold ltI
  rw [hdI_neg (fun s hs => hl s (List.mem_reverse.mp hs))]
  simp
theorem nIne {a : Nat} (h : a < 2 ^ 31) : ¬ nI a = -1 := fun e => absurd (by rw [e]; decide) (nI_pos h)
theorem hdI_mem {l : List Nat} {s : Nat} (hl : ∀ s ∈ l, s < 24) (hs : s < 24) (h : hdI l = nI s) : ∃ t, l = s :: t := by
  cases l with
  | nil => exact absurd h.symm (nIne (by omega))
  | cons a t =>
    have : a = s := (nI_eq (by have := hl a List.mem_cons_self; omega) (by omega)).mp h
    exact ⟨t, by rw [this]⟩
theorem ltI_mem {l : List Nat} {s : Nat} (hl : ∀ s ∈ l, s < 24) (hs : s < 24) (h : ltI l = nI s) : ∃ t, l = t ++ [s] := by
  obtain ⟨t, ht⟩ := hdI_mem (l := l.reverse) (fun s hs => hl s (List.mem_reverse.mp hs)) hs h
  exact ⟨t.reverse, by rw [← List.reverse_reverse l, ht]; simp⟩
theorem app_split {α : Type} {A B l1 l2 : List α} {s : α} (h : A ++ B = l1 ++ s :: l2) : (∃ A', A = l1 ++ s :: A' ∧ l2 = A' ++ B) ∨ (∃ B', l1 = A ++ B' ∧ B = B' ++ s :: l2) := by
  rcases List.append_eq_append_iff.mp h with ⟨a, h1, h2⟩ | ⟨a, h1, h2⟩
  · exact Or.inr ⟨a, h1, h2⟩
  · cases a with
    | nil => exact Or.inr ⟨[], by simpa using h1.symm, by simpa using h2.symm⟩
    | cons x t =>
      rw [List.cons_append, List.cons.injEq] at h2
      obtain ⟨rfl, h2⟩ := h2
      exact Or.inl ⟨t, h1, h2⟩
/-- a doubly linked list: older, newer, first, last -/
def DL (o n : Nat → Int32) (f t : Int32) (ls : List Nat) : Prop := f = hdI ls ∧ t = ltI ls ∧ ∀ l1 s l2, ls = l1 ++ s :: l2 → o s = ltI l1 ∧ n s = hdI l2
theorem DL_del {o n o' n' : Nat → Int32} {f t f' t' : Int32} {A B : List Nat} {c : Nat} (hnd : (A ++ c :: B).Nodup) (hlt : ∀ s ∈ A ++ c :: B, s < 24) (h : DL o n f t (A ++ c :: B))
    (hn : ∀ s, s < 24 → n' s = if nI s = ltI A then hdI B else n s) (ho : ∀ s, s < 24 → o' s = if nI s = hdI B then ltI A else o s) (hf : f' = if A = [] then hdI B else f) (ht : t' = if B = [] then ltI A else t) : DL o' n' f' t' (A ++ B) := by
  obtain ⟨h1, h2, h3⟩ := h
  have hA : ∀ s ∈ A, s < 24 := fun s hs => hlt s (List.mem_append_left _ hs)
  have hB : ∀ s ∈ B, s < 24 := fun s hs => hlt s (List.mem_append_right _ (List.mem_cons_of_mem _ hs))
  obtain ⟨ndA, ndB, nAB⟩ := List.nodup_append.mp hnd
  have ndB' := (List.nodup_cons.mp ndB).2
  refine ⟨?_, ?_, ?_⟩
  · rw [hf, h1]
    split
    · rename_i e
      rw [e]; rfl
    · rename_i e
      rw [hdI_app e, hdI_app e]
  · rw [ht, h2]
    split
    · rename_i e
      rw [e, List.append_nil]
    · rename_i e
      rw [ltI_app' A (by simp), ltI_app' A e]
      exact ltI_app' [c] e
  · intro l1 s l2 hs
    rcases app_split hs with ⟨A', hA', hl2⟩ | ⟨B', hl1, hB'⟩
    · subst hA'
      have hs24 : s < 24 := hA s (by simp)
      have hnB : ¬ nI s = hdI B := fun e => by
        obtain ⟨t, ht⟩ := hdI_mem hB hs24 e.symm
        exact nAB s (by simp) s (by rw [ht]; simp) rfl
      have old := h3 l1 s (A' ++ c :: B) (by simp)
      refine ⟨by rw [ho s hs24, if_neg hnB]; exact old.1, ?_⟩
      rw [hn s hs24, hl2]
      rcases lastE A' with e | ⟨A2, z, e⟩
      · rw [e, if_pos (by rw [ltI_app' l1 (by simp)]; rfl)]
        rfl
      · have hz : z < 24 := hA z (by rw [e]; simp)
        have hne : ¬ nI s = ltI (l1 ++ s :: A') := by
          rw [e, ltI_app' l1 (by simp), show s :: (A2 ++ [z]) = (s :: A2) ++ [z] from rfl, ltI_app, nI_eq (by omega) (by omega)]
          intro q
          subst q
          rw [e] at ndA
          have := (List.nodup_cons.mp (List.nodup_append.mp ndA).2.1).1
          exact this (by simp)
        have hne' : A' ≠ [] := by rw [e]; simp
        rw [if_neg hne, old.2, hdI_app hne', hdI_app hne']
    · subst hB'
      have hs24 : s < 24 := hB s (by simp)
      have hnA : ¬ nI s = ltI A := fun e => by
        obtain ⟨t, ht⟩ := ltI_mem hA hs24 e.symm
        exact nAB s (by rw [ht]; simp) s (by simp) rfl
      have old := h3 (A ++ c :: B') s l2 (by simp)
      refine ⟨?_, by rw [hn s hs24, if_neg hnA]; exact old.2⟩
      rw [ho s hs24, hl1]
      cases B' with
      | nil =>
        rw [List.append_nil]
        exact if_pos rfl
      | cons z B2 =>
        have hz : z < 24 := hB z (by simp)
        have hne : ¬ nI s = hdI (z :: B2 ++ s :: l2) := by
          show ¬ nI s = nI z
          rw [nI_eq (by omega) (by omega)]
          intro q
          subst q
          exact (List.nodup_cons.mp ndB').1 (by simp)
        rw [if_neg hne, old.1, ltI_app' A (by simp), ltI_app' A (by simp)]
        exact ltI_app' [c] (by simp)
theorem DL_add {o n o' n' : Nat → Int32} {f t f' t' : Int32} {A : List Nat} {c : Nat} (hc : c < 24) (hcA : c ∉ A) (hlt : ∀ s ∈ A, s < 24) (hnd : A.Nodup) (h : DL o n f t A)
    (hn : ∀ s, s < 24 → n' s = if s = c then -1 else if nI s = ltI A then nI c else n s) (ho : ∀ s, s < 24 → o' s = if s = c then ltI A else o s) (hf : f' = if A = [] then nI c else f) (ht : t' = nI c) : DL o' n' f' t' (A ++ [c]) := by
  obtain ⟨h1, h2, h3⟩ := h
  refine ⟨?_, by rw [ht, ltI_app], ?_⟩
  · rw [hf, h1]
    split
    · rename_i e
      rw [e]; rfl
    · rename_i e
      rw [hdI_app e]
  · intro l1 s l2 hs
    rcases app_split hs with ⟨A', hA', hl2⟩ | ⟨B', hl1, hB'⟩
    · have hsA : s ∈ A := by rw [hA']; simp
      have hs24 := hlt s hsA
      have hsc : ¬ s = c := fun e => hcA (e ▸ hsA)
      have old := h3 l1 s A' hA'
      refine ⟨by rw [ho s hs24, if_neg hsc]; exact old.1, ?_⟩
      rw [hn s hs24, if_neg hsc, hl2]
      rcases lastE A' with e | ⟨A2, z, e⟩
      · rw [if_pos (by rw [hA', e, ltI_app]), e]
        rfl
      · have hzA : z ∈ A := by rw [hA', e]; simp
        have hne : ¬ nI s = ltI A := by
          rw [hA', e, ltI_app' l1 (by simp), show s :: (A2 ++ [z]) = (s :: A2) ++ [z] from rfl, ltI_app, nI_eq (by omega) (by have := hlt z hzA; omega)]
          intro q
          subst q
          rw [hA', e] at hnd
          exact (List.nodup_cons.mp (List.nodup_append.mp hnd).2.1).1 (by simp)
        have hne' : A' ≠ [] := by rw [e]; simp
        rw [if_neg hne, old.2, hdI_app hne']
    · have hB2 : B' = [] ∧ c = s ∧ l2 = [] := by
        cases B' with
        | nil => simpa using hB'
        | cons z t => simp at hB'
      obtain ⟨rfl, rfl, rfl⟩ := hB2
      rw [List.append_nil] at hl1
      subst hl1
      refine ⟨by rw [ho c hc, if_pos rfl], by rw [hn c hc, if_pos rfl]; rfl⟩
/-- a chain from the last to the first: newest, older -/
def RC (o : Nat → Int32) (w : Int32) (ls : List Nat) : Prop := w = ltI ls ∧ ∀ l1 s l2, ls = l1 ++ s :: l2 → o s = ltI l1
theorem RC_nil {o : Nat → Int32} : RC o (-1) [] := ⟨rfl, fun l1 s l2 h => by simp at h⟩
theorem RC_add {o o' : Nat → Int32} {w : Int32} {ls : List Nat} {c : Nat} (h : RC o w ls) (hc : o' c = w) (ho : ∀ s ∈ ls, o' s = o s) : RC o' (nI c) (ls ++ [c]) := by
  refine ⟨by rw [ltI_app], fun l1 s l2 hs => ?_⟩
  rcases app_split hs with ⟨A', hA', hl2⟩ | ⟨B', hl1, hB'⟩
  · rw [ho s (by rw [hA']; simp)]
    exact h.2 l1 s A' hA'
  · have hB2 : B' = [] ∧ c = s ∧ l2 = [] := by
      cases B' with
      | nil => simpa using hB'
      | cons z t => simp at hB'
    obtain ⟨rfl, rfl, rfl⟩ := hB2
    rw [List.append_nil] at hl1
    rw [hl1, hc]
    exact h.1
theorem RC_pop {o o' : Nat → Int32} {w : Int32} {ls : List Nat} {c : Nat} (h : RC o w (ls ++ [c])) (ho : ∀ s ∈ ls, o' s = o s) : RC o' (o c) ls :=
  ⟨h.2 ls c [] rfl, fun l1 s l2 hs => by
    rw [ho s (by rw [hs]; simp)]
    exact h.2 l1 s (l2 ++ [c]) (by rw [hs]; simp)⟩
theorem RC_keep {o o' : Nat → Int32} {w : Int32} {ls : List Nat} (h : RC o w ls) (ho : ∀ s ∈ ls, o' s = o s) : RC o' w ls :=
  ⟨h.1, fun l1 s l2 hs => by rw [ho s (by rw [hs]; simp)]; exact h.2 l1 s l2 hs⟩
/-- the first of a chain is forgotten -/
theorem RC_drop {o o' : Nat → Int32} {w w' : Int32} {ls : List Nat} {c : Nat} (hlt : ∀ s ∈ c :: ls, s < 24) (hnd : (c :: ls).Nodup) (h : RC o w (c :: ls)) (ho : ∀ s ∈ ls, o' s = if o s = nI c then -1 else o s) (hw : w' = if w = nI c then -1 else w) : RC o' w' ls := by
  have hcls := (List.nodup_cons.mp hnd).1
  have hc := hlt c List.mem_cons_self
  have hl : ∀ s ∈ ls, s < 24 := fun s hs => hlt s (List.mem_cons_of_mem _ hs)
  have key : ∀ l1 : List Nat, (∀ s ∈ l1, s ∈ ls) → (if ltI (c :: l1) = nI c then (-1 : Int32) else ltI (c :: l1)) = ltI l1 := by
    intro l1 hs1
    rcases lastE l1 with e | ⟨t, z, e⟩
    · rw [e]; exact if_pos rfl
    · have hz : z ∈ ls := hs1 z (by rw [e]; simp)
      rw [e, ltI_cons, ltI_app, if_neg]
      rw [nI_eq (by have := hl z hz; omega) (by omega)]
      intro q
      exact hcls (q ▸ hz)
  refine ⟨by rw [hw, h.1]; exact key ls (fun _ h => h), fun l1 s l2 hs => ?_⟩
  rw [ho s (by rw [hs]; simp), h.2 (c :: l1) s l2 (by rw [hs]; rfl)]
  exact key l1 (fun x hx => by rw [hs]; simp [hx])
end
section
/-! ===== UndoReader's own order: the slots in use, in order of time ===== -/
def rowL (u : Mem) (ls : List Nat) (r : Nat) : List Nat := ls.filter (fun s => decide (u 3 s = nI r))
def SL0 (u : Mem) (ls : List Nat) : Prop :=
  WF u ∧ ls.Nodup ∧ (∀ s ∈ ls, s < 24) ∧ (∀ s, s < 24 → (bt (u 9 0) s = true ↔ s ∈ ls)) ∧ u 12 0 = nI ls.length ∧ DL (u 7) (u 8) (u 10 0) (u 11 0) ls ∧
  (∀ p, p < 32 → u 14 p = nI (ls.countP (fun s => decide (u 5 s = nI p)))) ∧ (∀ p, p < 32 → (bt (u 13 0) p = true ↔ (∃ s, s ∈ ls ∧ u 5 s = nI p) ∨ ∃ x, x < 4 ∧ u 16 x = nI p))
def RCs (u : Mem) (ls : List Nat) : Prop := ∀ r, r < 8 → RC (u 6) (u 1 r) (rowL u ls r)
theorem nodup_le : ∀ (n : Nat) (l : List Nat), l.Nodup → (∀ s ∈ l, s < n) → l.length ≤ n
  | 0, l, _, h => by
    cases l with
    | nil => exact Nat.le_refl 0
    | cons a t => exact absurd (h a List.mem_cons_self) (by omega)
  | n + 1, l, nd, h => by
    have h1 := nodup_le n (l.erase n) (nd.erase n) (fun s hs => by
      have := (nd.mem_erase_iff).mp hs
      have := h s this.2
      omega)
    rw [List.length_erase] at h1
    split at h1 <;> omega
theorem unl1_o {u : Mem} {a b : Int32} {k : Nat} (h1 : k ≠ 10) (h2 : k ≠ 8) : unl1F u a b k = u k := by
  unfold unl1F
  split
  · exact pk_ne h1
  · exact pk_ne h2
theorem unl2_o {u : Mem} {a b : Int32} {k : Nat} (h1 : k ≠ 11) (h2 : k ≠ 7) : unl2F u a b k = u k := by
  unfold unl2F
  split
  · exact pk_ne h1
  · exact pk_ne h2
theorem unl3_o {u : Mem} {c k : Nat} (h1 : k ≠ 9) (h2 : k ≠ 12) (h3 : k ≠ 14) (h4 : k ≠ 13) : unl3F u c k = u k := by
  unfold unl3F
  try dsimp only
  split
  · split
    · rw [pk_ne h4, pk_ne h3, pk_ne h2, pk_ne h1]
    · rw [pk_ne h3, pk_ne h2, pk_ne h1]
  · rw [pk_ne h3, pk_ne h2, pk_ne h1]
theorem unl3_9 (u : Mem) (c : Nat) : unl3F u c 9 0 = u 9 0 &&& (bitm c ^^^ (-1)) := by
  unfold unl3F
  try dsimp only
  split
  · split <;> simp [pk, upd]
  · simp [pk, upd]
theorem unl3_12 (u : Mem) (c : Nat) : unl3F u c 12 0 = u 12 0 - 1 := by
  unfold unl3F
  try dsimp only
  split
  · split <;> simp [pk, upd]
  · simp [pk, upd]
theorem unl3_14 (u : Mem) (c : Nat) : unl3F u c 14 = upd (u 14) (ix (u 5 c)) (b8 (b8 (u 14 (ix (u 5 c)) - 1))) := by
  unfold unl3F
  try dsimp only
  split
  · split <;> simp [pk]
  · simp [pk]
theorem unl3F_d (u : Mem) (c : Nat) : unl3F u c = (if upd (u 14) (ix (u 5 c)) (b8 (b8 (u 14 (ix (u 5 c)) - 1))) (ix (u 5 c)) = 0 then (if (if u 15 (ix (u 5 c)) = 0 then (1 : Int32) else 0) = 0 then
    pk (pk (pk (pk u 9 0 (u 9 0 &&& (bitm c ^^^ (-1)))) 12 0 (u 12 0 - 1)) 14 (ix (u 5 c)) (b8 (b8 (u 14 (ix (u 5 c)) - 1)))) 13 0 (u 13 0 &&& (((1 : Int32) <<< (u 5 c &&& 31)) ^^^ (-1)))
    else pk (pk (pk u 9 0 (u 9 0 &&& (bitm c ^^^ (-1)))) 12 0 (u 12 0 - 1)) 14 (ix (u 5 c)) (b8 (b8 (u 14 (ix (u 5 c)) - 1))))
    else pk (pk (pk u 9 0 (u 9 0 &&& (bitm c ^^^ (-1)))) 12 0 (u 12 0 - 1)) 14 (ix (u 5 c)) (b8 (b8 (u 14 (ix (u 5 c)) - 1)))) := rfl
theorem unl3_13 (u : Mem) (c : Nat) : unl3F u c 13 0 = if b8 (b8 (u 14 (ix (u 5 c)) - 1)) = 0 ∧ ¬ u 15 (ix (u 5 c)) = 0 then u 13 0 &&& (((1 : Int32) <<< (u 5 c &&& 31)) ^^^ (-1)) else u 13 0 := by
  rw [unl3F_d, show upd (u 14) (ix (u 5 c)) (b8 (b8 (u 14 (ix (u 5 c)) - 1))) (ix (u 5 c)) = b8 (b8 (u 14 (ix (u 5 c)) - 1)) from if_pos rfl]
  generalize ((1 : Int32) <<< (u 5 c &&& 31)) ^^^ (-1) = z
  by_cases h : b8 (b8 (u 14 (ix (u 5 c)) - 1)) = 0
  · by_cases g : u 15 (ix (u 5 c)) = 0
    · rw [if_pos h, if_pos g, if_neg (by decide), if_neg (fun q => q.2 g), pk_ne (by omega), pk_ne (by omega), pk_ne (by omega)]
    · rw [if_pos h, if_neg g, if_pos rfl, if_pos ⟨h, g⟩, pk_at]
      rfl
  · rw [if_neg h, if_neg (fun q => h q.1), pk_ne (by omega), pk_ne (by omega), pk_ne (by omega)]
theorem unlink_o {u : Mem} {c k : Nat} (hk : k < 7 ∨ 14 < k) : unlinkF u c k = u k := by
  unfold unlinkF
  rw [unl3_o (by omega) (by omega) (by omega) (by omega), unl2_o (by omega) (by omega), unl1_o (by omega) (by omega)]
theorem unlink_9 (u : Mem) (c : Nat) : unlinkF u c 9 0 = u 9 0 &&& (bitm c ^^^ (-1)) := by
  unfold unlinkF
  rw [unl3_9, unl2_o (by omega) (by omega), unl1_o (by omega) (by omega)]
theorem unlink_12 (u : Mem) (c : Nat) : unlinkF u c 12 0 = u 12 0 - 1 := by
  unfold unlinkF
  rw [unl3_12, unl2_o (by omega) (by omega), unl1_o (by omega) (by omega)]
theorem unlink_14 (u : Mem) (c : Nat) : unlinkF u c 14 = upd (u 14) (ix (u 5 c)) (b8 (b8 (u 14 (ix (u 5 c)) - 1))) := by
  unfold unlinkF
  rw [unl3_14, unl2_o (by omega) (by omega), unl2_o (by omega) (by omega), unl1_o (by omega) (by omega), unl1_o (by omega) (by omega)]
theorem unlink_13 (u : Mem) (c : Nat) : unlinkF u c 13 0 = if b8 (b8 (u 14 (ix (u 5 c)) - 1)) = 0 ∧ ¬ u 15 (ix (u 5 c)) = 0 then u 13 0 &&& (((1 : Int32) <<< (u 5 c &&& 31)) ^^^ (-1)) else u 13 0 := by
  unfold unlinkF
  rw [unl3_13, unl2_o (k := 5) (by omega) (by omega), unl2_o (k := 13) (by omega) (by omega), unl2_o (k := 14) (by omega) (by omega), unl2_o (k := 15) (by omega) (by omega), unl1_o (k := 5) (by omega) (by omega), unl1_o (k := 13) (by omega) (by omega), unl1_o (k := 14) (by omega) (by omega), unl1_o (k := 15) (by omega) (by omega)]
theorem unlink_dl {u : Mem} {A B : List Nat} {c : Nat} (W : WF u) (hA : ∀ s ∈ A, s < 24) (hB : ∀ s ∈ B, s < 24) (h7 : u 7 c = ltI A) (h8 : u 8 c = hdI B) :
    (∀ s, s < 24 → unlinkF u c 8 s = if nI s = ltI A then hdI B else u 8 s) ∧ (∀ s, s < 24 → unlinkF u c 7 s = if nI s = hdI B then ltI A else u 7 s) ∧ unlinkF u c 10 0 = (if A = [] then hdI B else u 10 0) ∧ unlinkF u c 11 0 = (if B = [] then ltI A else u 11 0) := by
  have k8 : b8 (b8 (u 8 c)) = u 8 c := by rw [b8_b8]; exact okN_b8 (W 8 c) (by decide)
  have k7 : b8 (b8 (u 7 c)) = u 7 c := by rw [b8_b8]; exact okN_b8 (W 7 c) (by decide)
  have e8 : unlinkF u c 8 = unl1F u (u 7 c) (u 8 c) 8 := by
    unfold unlinkF
    rw [unl3_o (by omega) (by omega) (by omega) (by omega), unl2_o (by omega) (by omega)]
  have e10 : unlinkF u c 10 = unl1F u (u 7 c) (u 8 c) 10 := by
    unfold unlinkF
    rw [unl3_o (by omega) (by omega) (by omega) (by omega), unl2_o (by omega) (by omega)]
  have e7 : unlinkF u c 7 = unl2F (unl1F u (u 7 c) (u 8 c)) (u 7 c) (u 8 c) 7 := by
    unfold unlinkF
    rw [unl3_o (by omega) (by omega) (by omega) (by omega)]
  have e11 : unlinkF u c 11 = unl2F (unl1F u (u 7 c) (u 8 c)) (u 7 c) (u 8 c) 11 := by
    unfold unlinkF
    rw [unl3_o (by omega) (by omega) (by omega) (by omega)]
  rw [e8, e7, e10, e11]
  have p1 : (∀ s, s < 24 → unl1F u (u 7 c) (u 8 c) 8 s = if nI s = ltI A then hdI B else u 8 s) ∧ unl1F u (u 7 c) (u 8 c) 10 0 = (if A = [] then hdI B else u 10 0) := by
    unfold unl1F
    by_cases e : A = []
    · have hn : u 7 c < 0 := by rw [h7, e]; decide
      rw [if_pos hn, if_pos e]
      refine ⟨fun s hs => ?_, by rw [pk_at]; simp [upd, h8]⟩
      rw [pk_ne (by omega), if_neg]
      rw [e]
      exact nIne (by omega)
    · have hn : ¬ u 7 c < 0 := by rw [h7]; exact fun z => e ((ltI_neg hA).mp z)
      rw [if_neg hn, if_neg e]
      obtain ⟨A0, a, ea⟩ : ∃ l' s, A = l' ++ [s] := (lastE A).resolve_left e
      have ha : a < 24 := hA a (by rw [ea]; simp)
      have hla : ltI A = nI a := by rw [ea, ltI_app]
      refine ⟨fun s hs => ?_, by rw [pk_ne (by omega)]⟩
      rw [pk_at, k8, h7, hla, ix_nI (by omega), h8]
      unfold upd
      by_cases q : s = a
      · rw [if_pos q, if_pos (by rw [q])]
      · rw [if_neg q, if_neg (fun z => q ((nI_eq (by omega) (by omega)).mp z))]
  have p2 : (∀ s, s < 24 → unl2F (unl1F u (u 7 c) (u 8 c)) (u 7 c) (u 8 c) 7 s = if nI s = hdI B then ltI A else u 7 s) ∧ unl2F (unl1F u (u 7 c) (u 8 c)) (u 7 c) (u 8 c) 11 0 = (if B = [] then ltI A else u 11 0) := by
    have o7 : unl1F u (u 7 c) (u 8 c) 7 = u 7 := unl1_o (by omega) (by omega)
    have o11 : unl1F u (u 7 c) (u 8 c) 11 = u 11 := unl1_o (by omega) (by omega)
    generalize unl1F u (u 7 c) (u 8 c) = w at o7 o11
    unfold unl2F
    by_cases e : B = []
    · have hn : u 8 c < 0 := by rw [h8, e]; decide
      rw [if_pos hn, if_pos e]
      refine ⟨fun s hs => ?_, by rw [pk_at]; simp [upd, h7]⟩
      rw [pk_ne (by omega), o7, if_neg]
      rw [e]
      exact nIne (by omega)
    · have hn : ¬ u 8 c < 0 := by rw [h8]; exact fun z => e ((hdI_neg hB).mp z)
      rw [if_neg hn, if_neg e]
      obtain ⟨b, B0, eb⟩ : ∃ b B0, B = b :: B0 := by
        cases B with
        | nil => exact absurd rfl e
        | cons b t => exact ⟨b, t, rfl⟩
      have hb : b < 24 := hB b (by rw [eb]; simp)
      have hlb : hdI B = nI b := by rw [eb]; rfl
      refine ⟨fun s hs => ?_, by rw [pk_ne (by omega), o11]⟩
      rw [pk_at, k7, o7, h8, hlb, ix_nI (by omega), h7]
      unfold upd
      by_cases q : s = b
      · rw [if_pos q, if_pos (by rw [q])]
      · rw [if_neg q, if_neg (fun z => q ((nI_eq (by omega) (by omega)).mp z))]
  exact ⟨p1.1, p2.1, p1.2, p2.2⟩
theorem SL0_unlink {u : Mem} {A B : List Nat} {c : Nat} (h : SL0 u (A ++ c :: B)) (hop : u 15 (ix (u 5 c)) = 0 ↔ ∃ x, x < 4 ∧ u 16 x = u 5 c) : SL0 (unlinkF u c) (A ++ B) := by
  obtain ⟨W, nd, hlt, hu, hc, hdl, h14, h13⟩ := h
  have hA : ∀ s ∈ A, s < 24 := fun s hs => hlt s (List.mem_append_left _ hs)
  have hB : ∀ s ∈ B, s < 24 := fun s hs => hlt s (List.mem_append_right _ (List.mem_cons_of_mem _ hs))
  have hc24 : c < 24 := hlt c (by simp)
  obtain ⟨ndA, ndcB, nAB⟩ := List.nodup_append.mp nd
  obtain ⟨hcB, ndB⟩ := List.nodup_cons.mp ndcB
  have hcA : c ∉ A := fun z => nAB c z c List.mem_cons_self rfl
  have hcAB : c ∉ A ++ B := fun z => (List.mem_append.mp z).elim hcA hcB
  obtain ⟨q8, q7, q10, q11⟩ := unlink_dl W hA hB (hdl.2.2 A c B rfl).1 (hdl.2.2 A c B rfl).2
  obtain ⟨pc, hpc, h5c⟩ : okP 32 (u 5 c) := W 5 c
  have hix : ix (u 5 c) = pc := by rw [h5c]; exact ix_nI (by omega)
  rw [hix] at hop
  have hlen : (A ++ c :: B).length ≤ 24 := nodup_le 24 _ nd hlt
  have hcnt : ∀ p, (A ++ c :: B).countP (fun s => decide (u 5 s = nI p)) = (A ++ B).countP (fun s => decide (u 5 s = nI p)) + (if u 5 c = nI p then 1 else 0) := by
    intro p
    rw [List.countP_append, List.countP_append, List.countP_cons]
    by_cases e : u 5 c = nI p
    · simp [e]; omega
    · simp [e]
  have hcle : (A ++ B).countP (fun s => decide (u 5 s = nI pc)) ≤ 24 := Nat.le_trans List.countP_le_length (by simp at hlen ⊢; omega)
  have hb : b8 (b8 (u 14 pc - 1)) = nI ((A ++ B).countP (fun s => decide (u 5 s = nI pc))) := by
    rw [h14 _ hpc, hcnt, if_pos h5c, nI_pred, b8_b8, b8_nI _ (by omega)]
  refine ⟨WF_unlink W c, ?_, ?_, ?_, ?_, ?_, ?_, ?_⟩
  · exact List.nodup_append.mpr ⟨ndA, ndB, fun a ha b hb => nAB a ha b (List.mem_cons_of_mem _ hb)⟩
  · intro s hs
    exact (List.mem_append.mp hs).elim (hA s) (hB s)
  · intro s hs
    rw [unlink_9, bt_clr _ (by omega) (by omega), hu s hs]
    simp only [List.mem_append, List.mem_cons]
    constructor
    · rintro ⟨h1 | h1 | h1, h2⟩
      · exact Or.inl h1
      · exact absurd h1 h2
      · exact Or.inr h1
    · intro h1
      exact ⟨h1.elim Or.inl (fun z => Or.inr (Or.inr z)), fun e => hcAB (by rw [← e]; exact List.mem_append.mpr h1)⟩
  · rw [unlink_12, hc, show (A ++ c :: B).length = (A ++ B).length + 1 by simp; omega, nI_pred]
  · exact DL_del nd hlt hdl q8 q7 q10 q11
  · intro p hp32
    rw [unlink_14, hix, unlink_o (k := 5) (by omega)]
    unfold upd
    by_cases e : p = pc
    · rw [if_pos e, hb, e]
    · rw [if_neg e, h14 p hp32, hcnt, if_neg, Nat.add_zero]
      rw [h5c, nI_eq (by omega) (by omega)]
      exact fun z => e z.symm
  · intro p hp32
    rw [unlink_13, hix, unlink_o (k := 5) (by omega), unlink_o (k := 16) (by omega), hb]
    have hbit : ((1 : Int32) <<< (u 5 c &&& 31)) = bitm pc := by rw [h5c]
    have h13p := h13 p hp32
    simp only [List.mem_append, List.mem_cons] at h13p ⊢
    have hz : nI ((A ++ B).countP (fun s => decide (u 5 s = nI pc))) = 0 ↔ ∀ s, s ∈ A ∨ s ∈ B → ¬ u 5 s = u 5 c := by
      rw [← nI_0, nI_eq (by omega) (by omega), List.countP_eq_zero, ← h5c]
      simp
    by_cases e : p = pc
    · have ep : nI p = u 5 c := by rw [e]; exact h5c.symm
      have old : bt (u 13 0) p = true := h13p.mpr (Or.inl ⟨c, Or.inr (Or.inl rfl), ep.symm⟩)
      rw [ep]
      split
      · rename_i q
        rw [hbit, bt_clr _ (by omega) hp32]
        constructor
        · intro z
          exact absurd e z.2
        · rintro (⟨s, h1, h2⟩ | h1)
          · exact absurd h2 (hz.mp q.1 s h1)
          · exact absurd (hop.mpr h1) q.2
      · rename_i q
        refine ⟨fun _ => ?_, fun _ => old⟩
        by_cases q1 : u 15 pc = 0
        · exact Or.inr (hop.mp q1)
        · have q2 : ¬ ∀ s, s ∈ A ∨ s ∈ B → ¬ u 5 s = u 5 c := fun z => q ⟨hz.mpr z, q1⟩
          apply Classical.byContradiction
          intro q3
          exact q2 (fun s h1 h2 => q3 (Or.inl ⟨s, h1, h2⟩))
    · have ep : ¬ u 5 c = nI p := by
        rw [h5c, nI_eq (by omega) (by omega)]
        exact fun z => e z.symm
      have key : bt (u 13 0) p = true ↔ (∃ s, (s ∈ A ∨ s ∈ B) ∧ u 5 s = nI p) ∨ ∃ x, x < 4 ∧ u 16 x = nI p := by
        rw [h13p]
        constructor
        · rintro (⟨s, h1 | h1 | h1, h2⟩ | h1)
          · exact Or.inl ⟨s, Or.inl h1, h2⟩
          · exact absurd (h1 ▸ h2) ep
          · exact Or.inl ⟨s, Or.inr h1, h2⟩
          · exact Or.inr h1
        · rintro (⟨s, h1, h2⟩ | h1)
          · exact Or.inl ⟨s, h1.elim Or.inl (fun z => Or.inr (Or.inr z)), h2⟩
          · exact Or.inr h1
      split
      · rw [hbit, bt_clr _ (by omega) hp32, key]
        exact ⟨fun z => z.1, fun z => ⟨z, e⟩⟩
      · exact key
end
section
/-! ===== UndoReader's order under its operations ===== -/
theorem SL0_cong {u u' : Mem} {ls : List Nat} (h : SL0 u ls) (W : WF u') (e : ∀ k, k = 5 ∨ (7 ≤ k ∧ k ≤ 14) ∨ k = 16 → u' k = u k) : SL0 u' ls := by
  obtain ⟨_, nd, hlt, hu, hc, hdl, h14, h13⟩ := h
  refine ⟨W, nd, hlt, ?_, ?_, ?_, ?_, ?_⟩
  · rw [e 9 (by omega)]; exact hu
  · rw [e 12 (by omega)]; exact hc
  · rw [e 7 (by omega), e 8 (by omega), e 10 (by omega), e 11 (by omega)]; exact hdl
  · rw [e 14 (by omega), e 5 (by omega)]; exact h14
  · rw [e 13 (by omega), e 5 (by omega), e 16 (by omega)]; exact h13
theorem all_le : ∀ (n : Nat) (l : List Nat), (∀ i, i < n → i ∈ l) → n ≤ l.length
  | 0, _, _ => Nat.zero_le _
  | n + 1, l, h => by
    have h1 := all_le n (l.erase n) (fun i hi => (List.mem_erase_of_ne (by omega)).mpr (h i (by omega)))
    have hm : n ∈ l := h n (by omega)
    rw [List.length_erase, if_pos hm] at h1
    have : 0 < l.length := List.length_pos_of_mem hm
    omega
theorem slotF_spec (w : Int32) : ∀ n c0 : Nat, n + c0 = 23 → (∀ i, c0 ≤ i → i < slotF w n c0 → bt w i = true) ∧ (bt w (slotF w n c0) = false ∨ slotF w n c0 = 23)
  | 0, c0, h => by
    unfold slotF
    exact ⟨fun i h1 h2 => absurd h1 (by omega), Or.inr (by omega)⟩
  | n + 1, c0, h => by
    unfold slotF
    have hb := bit1 w (c := c0) (by omega)
    split
    · rename_i q
      exact ⟨fun i h1 h2 => absurd h1 (by omega), Or.inl (hb.mp q)⟩
    · rename_i q
      obtain ⟨h1, h2⟩ := slotF_spec w n (c0 + 1) (by omega)
      refine ⟨fun i h3 h4 => ?_, h2⟩
      by_cases e : i = c0
      · rw [e]
        have q1 : ¬ bt w c0 = false := fun z => q (hb.mpr z)
        simpa using q1
      · exact h1 i (by omega) h4
theorem slot_free {w : Int32} {ls : List Nat} (hu : ∀ s, s < 24 → (bt w s = true ↔ s ∈ ls)) (hl : ls.length < 24) : slotF w 23 0 ∉ ls := by
  have hlt : slotF w 23 0 < 24 := slotF_lt w 23 0 rfl
  obtain ⟨h1, h2⟩ := slotF_spec w 23 0 rfl
  intro hm
  have hb := (hu _ hlt).mpr hm
  rcases h2 with h2 | h2
  · rw [h2] at hb; cases hb
  · have := all_le 24 ls (fun i hi => by
      by_cases e : i = 23
      · rw [e, ← h2]; exact hm
      · exact (hu i hi).mp (h1 i (Nat.zero_le _) (by omega)))
    omega
theorem freeF_spec (t : Int32) : ∀ n p : Nat, n + p = 32 → (∃ i, p ≤ i ∧ i < 32 ∧ bt t i = false) → bt t (freeF t n p) = false
  | 0, p, h, ⟨i, h1, h2, _⟩ => absurd h1 (by omega)
  | n + 1, p, h, ⟨i, h1, h2, h3⟩ => by
    unfold freeF
    have hb := bit1u t (c := p) (by omega)
    split
    · rename_i q
      exact hb.mp q
    · rename_i q
      refine freeF_spec t n (p + 1) (by omega) ⟨i, ?_, h2, h3⟩
      rcases Nat.lt_or_ge p i with z | z
      · exact z
      · exact absurd (hb.mpr (by rw [show p = i by omega]; exact h3)) q
-- ----- note -----
theorem note1_f (u : Mem) (r p c : Nat) : note1F u r p c = pk (pk (pk (pk (pk (pk (pk (pk (pk u 9 0 (u 9 0 ||| bitm c)) 3 c (b8 (b8 (nI r)))) 4 c (u 0 r)) 5 c (b8 (b8 (nI p)))) 14 p (b8 (b8 (u 14 p + 1)))) 6 c (b8 (u 1 r))) 1 r (b8 (b8 (nI c)))) 7 c (b8 (b8 (u 11 0)))) 8 c (b8 (-1)) := rfl
theorem note2_o {u : Mem} {c k : Nat} (h1 : k ≠ 10) (h2 : k ≠ 8) : note2F u c k = u k := by
  unfold note2F
  split
  · exact pk_ne h1
  · exact pk_ne h2
theorem note3_o {u : Mem} {c k : Nat} (h1 : k ≠ 11) (h2 : k ≠ 12) : note3F u c k = u k := by
  show pk (pk u 11 0 (nI c)) 12 0 _ k = _
  rw [pk_ne h2, pk_ne h1]
theorem X_note {u : Mem} {ls : List Nat} {r p : Nat} (h : SL0 u ls) (hR : RCs u ls) (hl : ls.length < 24) (hr : r < 8) (hp : p < 32) (hx : ∃ x, x < 4 ∧ u 16 x = nI p) :
    ∃ c, c < 24 ∧ c ∉ ls ∧ SL0 (noteF u r p) (ls ++ [c]) ∧ RCs (noteF u r p) (ls ++ [c]) ∧ noteF u r p 0 = u 0 ∧ noteF u r p 2 = u 2 ∧ noteF u r p 3 = upd (u 3) c (nI r) ∧ noteF u r p 4 = upd (u 4) c (u 0 r) ∧ noteF u r p 5 = upd (u 5) c (nI p) ∧ noteF u r p 15 = u 15 ∧ noteF u r p 16 = u 16 ∧ noteF u r p 17 = u 17 := by
  obtain ⟨W, nd, hlt, hu, hc, hdl, h14, h13⟩ := h
  have hWN := WF_note W hr hp
  obtain ⟨c, ec⟩ : ∃ c, c = slotF (u 9 0) 23 0 := ⟨_, rfl⟩
  have hc24 : c < 24 := by rw [ec]; exact slotF_lt _ 23 0 rfl
  have hcl : c ∉ ls := by rw [ec]; exact slot_free hu hl
  have eN : noteF u r p = note3F (note2F (note1F u r p c) c) c := by rw [ec]; rfl
  have kr : b8 (b8 (nI r)) = nI r := by rw [b8_b8, b8_nI r (by omega)]
  have kp : b8 (b8 (nI p)) = nI p := by rw [b8_b8, b8_nI p (by omega)]
  have kc : b8 (b8 (nI c)) = nI c := by rw [b8_b8, b8_nI c (by omega)]
  have k1 : b8 (u 1 r) = u 1 r := okN_b8 (W 1 r) (by decide)
  have k11 : b8 (b8 (u 11 0)) = u 11 0 := by rw [b8_b8]; exact okN_b8 (W 11 0) (by decide)
  have hcnt : ∀ p', p' < 32 → ls.countP (fun s => decide (u 5 s = nI p')) ≤ 24 := fun p' _ => Nat.le_trans List.countP_le_length (by omega)
  have k14 : b8 (b8 (u 14 p + 1)) = nI (ls.countP (fun s => decide (u 5 s = nI p)) + 1) := by
    rw [h14 p hp, nI_1, b8_b8, b8_nI _ (by have := hcnt p hp; omega)]
  have e1 : note1F u r p c = pk (pk (pk (pk (pk (pk (pk (pk (pk u 9 0 (u 9 0 ||| bitm c)) 3 c (nI r)) 4 c (u 0 r)) 5 c (nI p)) 14 p (nI (ls.countP (fun s => decide (u 5 s = nI p)) + 1))) 6 c (u 1 r)) 1 r (nI c)) 7 c (u 11 0)) 8 c (-1) := by
    rw [note1_f, kr, kp, kc, k1, k11, k14, b8_m1]
  obtain ⟨w, ew⟩ : ∃ w, w = note1F u r p c := ⟨_, rfl⟩
  rw [← ew] at eN e1
  have w0 : w 0 = u 0 := by rw [e1]; rfl
  have w1 : w 1 = upd (u 1) r (nI c) := by rw [e1]; rfl
  have w2 : w 2 = u 2 := by rw [e1]; rfl
  have w3 : w 3 = upd (u 3) c (nI r) := by rw [e1]; rfl
  have w4 : w 4 = upd (u 4) c (u 0 r) := by rw [e1]; rfl
  have w5 : w 5 = upd (u 5) c (nI p) := by rw [e1]; rfl
  have w6 : w 6 = upd (u 6) c (u 1 r) := by rw [e1]; rfl
  have w7 : w 7 = upd (u 7) c (u 11 0) := by rw [e1]; rfl
  have w8 : w 8 = upd (u 8) c (-1) := by rw [e1]; rfl
  have w9 : w 9 0 = u 9 0 ||| bitm c := by rw [e1]; rfl
  have w10 : w 10 = u 10 := by rw [e1]; rfl
  have w11 : w 11 = u 11 := by rw [e1]; rfl
  have w12 : w 12 = u 12 := by rw [e1]; rfl
  have w13 : w 13 = u 13 := by rw [e1]; rfl
  have w14 : w 14 = upd (u 14) p (nI (ls.countP (fun s => decide (u 5 s = nI p)) + 1)) := by rw [e1]; rfl
  have w15 : w 15 = u 15 := by rw [e1]; rfl
  have w16 : w 16 = u 16 := by rw [e1]; rfl
  have w17 : w 17 = u 17 := by rw [e1]; rfl
  have oN : ∀ k, k ≠ 8 → k ≠ 10 → k ≠ 11 → k ≠ 12 → noteF u r p k = w k := fun k h1 h2 h3 h4 => by
    rw [eN, note3_o h3 h4, note2_o h2 h1]
  have n12 : noteF u r p 12 0 = u 12 0 + 1 := by
    rw [eN]
    show note2F w c 12 0 + 1 = _
    rw [note2_o (by omega) (by omega), w12]
  have n11 : noteF u r p 11 0 = nI c := by rw [eN]; rfl
  have n10 : noteF u r p 10 0 = if ls = [] then nI c else u 10 0 := by
    rw [eN, note3_o (by omega) (by omega)]
    unfold note2F
    rw [w11, hdl.2.1]
    by_cases e : ls = []
    · rw [if_pos ((ltI_neg hlt).mpr e), if_pos e]; rfl
    · rw [if_neg (fun z => e ((ltI_neg hlt).mp z)), if_neg e, pk_ne (by omega), w10]
  have n8 : ∀ s, s < 24 → noteF u r p 8 s = if s = c then -1 else if nI s = ltI ls then nI c else u 8 s := by
    intro s hs
    rw [eN, note3_o (by omega) (by omega)]
    unfold note2F
    rw [w11, hdl.2.1]
    by_cases e : ls = []
    · rw [if_pos ((ltI_neg hlt).mpr e), pk_ne (by omega), w8]
      unfold upd
      rw [e, ltI_nil]
      by_cases q : s = c
      · rw [if_pos q, if_pos q]
      · rw [if_neg q, if_neg q, if_neg (nIne (by omega))]
    · obtain ⟨A0, a, ea⟩ : ∃ l' s, ls = l' ++ [s] := (lastE ls).resolve_left e
      have haM : a ∈ ls := by rw [ea]; simp
      have ha := hlt a haM
      have hla : ltI ls = nI a := by rw [ea, ltI_app]
      have hac : ¬ c = a := fun z => hcl (z ▸ haM)
      rw [if_neg (fun z => e ((ltI_neg hlt).mp z)), pk_at, hla, ix_nI (by omega), kc, w8]
      unfold upd
      by_cases q2 : s = a
      · have q : ¬ s = c := fun z => hac (z ▸ q2)
        rw [if_pos q2, if_neg q, if_pos (by rw [q2])]
      · rw [if_neg q2]
        by_cases q : s = c
        · rw [if_pos q, if_pos q]
        · rw [if_neg q, if_neg q, if_neg (fun z => q2 ((nI_eq (by omega) (by omega)).mp z))]
  have n7 : ∀ s, s < 24 → noteF u r p 7 s = if s = c then ltI ls else u 7 s := by
    intro s hs
    rw [oN 7 (by omega) (by omega) (by omega) (by omega), w7, hdl.2.1]
    rfl
  have n3 : noteF u r p 3 = upd (u 3) c (nI r) := by rw [oN 3 (by omega) (by omega) (by omega) (by omega), w3]
  have n5 : noteF u r p 5 = upd (u 5) c (nI p) := by rw [oN 5 (by omega) (by omega) (by omega) (by omega), w5]
  have m5 : ∀ s ∈ ls, noteF u r p 5 s = u 5 s := fun s hs => by
    rw [n5]
    exact pk_un (fun z => hcl (z ▸ hs))
  have c5 : noteF u r p 5 c = nI p := by rw [n5]; exact if_pos rfl
  refine ⟨c, hc24, hcl, ⟨hWN, ?_, ?_, ?_, ?_, ?_, ?_, ?_⟩, ?_, by rw [oN 0 (by omega) (by omega) (by omega) (by omega), w0], by rw [oN 2 (by omega) (by omega) (by omega) (by omega), w2], n3, by rw [oN 4 (by omega) (by omega) (by omega) (by omega), w4], n5, by rw [oN 15 (by omega) (by omega) (by omega) (by omega), w15], by rw [oN 16 (by omega) (by omega) (by omega) (by omega), w16], by rw [oN 17 (by omega) (by omega) (by omega) (by omega), w17]⟩
  · exact List.nodup_append.mpr ⟨nd, by simp, fun a ha b hb e => by
      rw [List.mem_singleton] at hb
      exact hcl (by rw [← hb, ← e]; exact ha)⟩
  · intro s hs
    rcases List.mem_append.mp hs with z | z
    · exact hlt s z
    · rw [List.mem_singleton.mp z]; exact hc24
  · intro s hs
    rw [oN 9 (by omega) (by omega) (by omega) (by omega), w9, bt_set _ (by omega) (by omega), hu s hs]
    simp
  · rw [n12, hc, nI_1]
    simp
  · exact DL_add hc24 hcl hlt nd hdl n8 n7 n10 n11
  · intro p' hp'
    rw [oN 14 (by omega) (by omega) (by omega) (by omega), w14, List.countP_append]
    have e2 : ls.countP (fun s => decide (noteF u r p 5 s = nI p')) = ls.countP (fun s => decide (u 5 s = nI p')) := by
      apply List.countP_congr
      intro s hs
      rw [m5 s hs]
    rw [e2, List.countP_cons, List.countP_nil, c5]
    unfold upd
    by_cases q : p' = p
    · rw [if_pos q, q]; simp
    · rw [if_neg q, h14 p' hp']
      have q2 : ¬ nI p = nI p' := fun z => q ((nI_eq (by omega) (by omega)).mp z).symm
      simp [q2]
  · intro p' hp'
    rw [oN 13 (by omega) (by omega) (by omega) (by omega), w13, oN 16 (by omega) (by omega) (by omega) (by omega), w16, h13 p' hp']
    constructor
    · rintro (⟨s, h1, h2⟩ | h1)
      · exact Or.inl ⟨s, List.mem_append_left _ h1, by rw [m5 s h1]; exact h2⟩
      · exact Or.inr h1
    · rintro (⟨s, h1, h2⟩ | h1)
      · rcases List.mem_append.mp h1 with z | z
        · exact Or.inl ⟨s, z, by rw [← m5 s z]; exact h2⟩
        · rw [List.mem_singleton.mp z, c5] at h2
          exact Or.inr (h2 ▸ hx)
      · exact Or.inr h1
  · intro r' hr'
    rw [oN 6 (by omega) (by omega) (by omega) (by omega), w6, oN 1 (by omega) (by omega) (by omega) (by omega), w1]
    have o6 : ∀ s ∈ ls, upd (u 6) c (u 1 r) s = u 6 s := fun s hs => pk_un (fun z => hcl (z ▸ hs))
    have e3 : rowL (noteF u r p) (ls ++ [c]) r' = rowL u ls r' ++ (if r' = r then [c] else []) := by
      unfold rowL
      rw [List.filter_append]
      have e4 : ls.filter (fun s => decide (noteF u r p 3 s = nI r')) = ls.filter (fun s => decide (u 3 s = nI r')) := by
        apply List.filter_congr
        intro s hs
        rw [n3, show upd (u 3) c (nI r) s = u 3 s from pk_un (fun z => hcl (z ▸ hs))]
      rw [e4, List.filter_cons, List.filter_nil, n3, show upd (u 3) c (nI r) c = nI r from if_pos rfl]
      by_cases q : r' = r
      · rw [if_pos q, q]; simp
      · have q2 : ¬ nI r = nI r' := fun z => q ((nI_eq (by omega) (by omega)).mp z).symm
        rw [if_neg q]; simp [q2]
    rw [e3]
    have hsub : ∀ s ∈ rowL u ls r', s ∈ ls := fun s hs => (List.mem_filter.mp hs).1
    by_cases q : r' = r
    · rw [if_pos q, show upd (u 1) r (nI c) r' = nI c from if_pos q]
      exact RC_add (hR r' hr') (by rw [q]; exact if_pos rfl) (fun s hs => o6 s (hsub s hs))
    · rw [if_neg q, List.append_nil, show upd (u 1) r (nI c) r' = u 1 r' from if_neg q]
      exact RC_keep (hR r' hr') (fun s hs => o6 s (hsub s hs))
-- ----- open -----
theorem X_open {u : Mem} {ls : List Nat} {x : Nat} (h : SL0 u ls) (hR : RCs u ls) (hx : x < 4) (h16 : u 16 x = -1) (hfree : ∃ i, i < 32 ∧ bt (u 13 0) i = false) :
    ∃ p, p < 32 ∧ (∀ s ∈ ls, ¬ u 5 s = nI p) ∧ (∀ y, y < 4 → ¬ u 16 y = nI p) ∧ SL0 (openF u x) ls ∧ RCs (openF u x) ls ∧ openF u x 15 = upd (u 15) p 0 ∧ openF u x 16 = upd (u 16) x (nI p) ∧ (∀ k, k < 13 ∨ k = 17 → openF u x k = u k) := by
  obtain ⟨W, nd, hlt, hu, hc, hdl, h14, h13⟩ := h
  obtain ⟨p, ep⟩ : ∃ p, p = freeF (u 13 0) 32 0 := ⟨_, rfl⟩
  have hp : p < 32 := by rw [ep]; exact freeF_lt _ 32 0 rfl
  have hb : bt (u 13 0) p = false := by
    rw [ep]
    obtain ⟨i, h1, h2⟩ := hfree
    exact freeF_spec _ 32 0 rfl ⟨i, Nat.zero_le _, h1, h2⟩
  have hn : ¬ ((∃ s, s ∈ ls ∧ u 5 s = nI p) ∨ ∃ x, x < 4 ∧ u 16 x = nI p) := fun z => by
    rw [(h13 p hp).mpr z] at hb
    cases hb
  have eO : openF u x = pk (pk (pk (pk u 13 0 (u 13 0 ||| bitm p)) 14 p 0) 15 p 0) 16 x (nI p) := by
    show pk (pk (pk (pk u 13 0 (u 13 0 ||| bitm (freeF (u 13 0) 32 0))) 14 (freeF (u 13 0) 32 0) (b8 0)) 15 (freeF (u 13 0) 32 0) 0) 16 x (b8 (b8 (nI (freeF (u 13 0) 32 0)))) = _
    rw [← ep, b8_0, b8_b8, b8_nI p (by omega)]
  have o16 : openF u x 16 = upd (u 16) x (nI p) := by rw [eO]; rfl
  have o14 : openF u x 14 = upd (u 14) p 0 := by rw [eO]; rfl
  have o13 : openF u x 13 0 = u 13 0 ||| bitm p := by rw [eO]; rfl
  have oo : ∀ k, k < 13 ∨ k = 17 → openF u x k = u k := fun k hk => by
    rw [eO, pk_ne (by omega), pk_ne (by omega), pk_ne (by omega), pk_ne (by omega)]
  have n5 : ∀ s ∈ ls, ¬ u 5 s = nI p := fun s hs e => hn (Or.inl ⟨s, hs, e⟩)
  refine ⟨p, hp, n5, fun y hy e => hn (Or.inr ⟨y, hy, e⟩), ⟨WF_open W x, nd, hlt, ?_, ?_, ?_, ?_, ?_⟩, ?_, by rw [eO]; rfl, o16, oo⟩
  · rw [oo 9 (by omega)]; exact hu
  · rw [oo 12 (by omega)]; exact hc
  · rw [oo 7 (by omega), oo 8 (by omega), oo 10 (by omega), oo 11 (by omega)]; exact hdl
  · intro p' hp'
    rw [o14, oo 5 (by omega)]
    unfold upd
    by_cases q : p' = p
    · rw [if_pos q, q, List.countP_eq_zero.mpr (fun s hs => by simpa using n5 s hs)]
      exact nI_0.symm
    · rw [if_neg q]; exact h14 p' hp'
  · intro p' hp'
    rw [o13, bt_set _ hp hp', h13 p' hp', oo 5 (by omega), o16]
    unfold upd
    constructor
    · rintro ((h1 | ⟨y, h1, h2⟩) | h1)
      · exact Or.inl h1
      · refine Or.inr ⟨y, h1, ?_⟩
        by_cases q : y = x
        · rw [q, h16] at h2
          exact absurd h2.symm (nIne (by omega))
        · rw [if_neg q]; exact h2
      · exact Or.inr ⟨x, hx, by rw [if_pos rfl, h1]⟩
    · rintro (h1 | ⟨y, h1, h2⟩)
      · exact Or.inl (Or.inl h1)
      · by_cases q : y = x
        · rw [if_pos q] at h2
          exact Or.inr ((nI_eq (by omega) (by omega)).mp h2).symm
        · rw [if_neg q] at h2
          exact Or.inl (Or.inr ⟨y, h1, h2⟩)
  · intro r hr
    unfold rowL
    rw [oo 6 (by omega), oo 1 (by omega), oo 3 (by omega)]
    exact hR r hr
-- ----- pop of a row's newest -----
theorem rowL_app (u : Mem) (A B : List Nat) (r : Nat) : rowL u (A ++ B) r = rowL u A r ++ rowL u B r := List.filter_append A B
theorem rowL_cons (u : Mem) (s : Nat) (B : List Nat) (r : Nat) : rowL u (s :: B) r = if u 3 s = nI r then s :: rowL u B r else rowL u B r := by
  unfold rowL
  rw [List.filter_cons]
  by_cases e : u 3 s = nI r <;> simp [e]
theorem rowL_cong {u u' : Mem} (h : u' 3 = u 3) (ls : List Nat) (r : Nat) : rowL u' ls r = rowL u ls r := by
  unfold rowL
  rw [h]
theorem X_pop {u : Mem} {ls : List Nat} {r s : Nat} (h : SL0 u ls) (hR : RCs u ls) (hr : r < 8) (hs24 : s < 24) (hs : u 1 r = nI s) (hop : u 15 (ix (u 5 s)) = 0 ↔ ∃ x, x < 4 ∧ u 16 x = u 5 s) :
    ∃ A B, ls = A ++ s :: B ∧ (∀ z ∈ B, ¬ u 3 z = nI r) ∧ u 3 s = nI r ∧ SL0 (popF u r) (A ++ B) ∧ RCs (popF u r) (A ++ B) ∧ popF u r 0 = upd (u 0) r (u 4 s) ∧ (∀ k, k = 2 ∨ k = 3 ∨ k = 4 ∨ k = 5 ∨ 14 < k → popF u r k = u k) := by
  have h0 := h
  obtain ⟨W, nd, hlt, hu, hc, hdl, h14, h13⟩ := h
  have hsubr : ∀ r' z, z ∈ rowL u ls r' → z ∈ ls := fun r' z hz => (List.mem_filter.mp hz).1
  obtain ⟨t, ht⟩ := ltI_mem (l := rowL u ls r) (fun z hz => hlt z (hsubr r z hz)) hs24 ((hR r hr).1.symm.trans hs)
  have hsr : s ∈ rowL u ls r := by rw [ht]; simp
  have hsl : s ∈ ls := hsubr r s hsr
  have h3 : u 3 s = nI r := by simpa using (List.mem_filter.mp hsr).2
  obtain ⟨A, B, hAB⟩ := List.append_of_mem hsl
  subst hAB
  obtain ⟨ndA, ndsB, nAB⟩ := List.nodup_append.mp nd
  have hsB := (List.nodup_cons.mp ndsB).1
  have hrow : rowL u (A ++ s :: B) r = rowL u A r ++ s :: rowL u B r := by
    rw [rowL_app, rowL_cons, if_pos h3]
  have hBe : rowL u B r = [] := by
    rcases lastE (rowL u B r) with e | ⟨l', z, e⟩
    · exact e
    · rw [hrow, e] at ht
      have h1 : (rowL u A r ++ s :: l') ++ [z] = t ++ [s] := by rw [← ht]; simp
      have h2 := (List.append_inj' h1 rfl).2
      have hz : z = s := by simpa using h2
      exact absurd (by rw [← hz]; exact (List.mem_filter.mp (show z ∈ rowL u B r by rw [e]; simp)).1) hsB
  have hBn : ∀ z ∈ B, ¬ u 3 z = nI r := fun z hz e => by
    have : z ∈ rowL u B r := List.mem_filter.mpr ⟨hz, by simpa using e⟩
    rw [hBe] at this
    cases this
  have htA : t = rowL u A r := by
    rw [hrow, hBe] at ht
    exact (List.append_inj' ht rfl).1.symm
  have eix : ix (u 1 r) = s := by rw [hs]; exact ix_nI (by omega)
  have k6 : b8 (u 6 s) = u 6 s := okN_b8 (W 6 s) (by decide)
  have eP : popF u r = unlinkF (pk (pk u 0 r (u 4 s)) 1 r (u 6 s)) s := by
    show unlinkF (pk (pk u 0 r (u 4 (ix (u 1 r)))) 1 r (b8 (u 6 (ix (u 1 r))))) (ix (u 1 r)) = _
    rw [eix, k6]
  have W2 : WF (pk (pk u 0 r (u 4 s)) 1 r (u 6 s)) := WF_pk (WF_pk W trivial) (W 6 s)
  have hS2 : SL0 (pk (pk u 0 r (u 4 s)) 1 r (u 6 s)) (A ++ s :: B) := SL0_cong h0 W2 (fun k hk => by rw [pk_ne (by omega), pk_ne (by omega)])
  have hSu := SL0_unlink hS2 hop
  rw [← eP] at hSu
  have oP : ∀ k, k = 2 ∨ k = 3 ∨ k = 4 ∨ k = 5 ∨ k = 6 ∨ 14 < k → popF u r k = u k := fun k hk => by
    rw [eP, unlink_o (by omega), pk_ne (by omega), pk_ne (by omega)]
  have p1 : popF u r 1 = upd (u 1) r (u 6 s) := by rw [eP, unlink_o (by omega)]; rfl
  refine ⟨A, B, rfl, hBn, h3, hSu, ?_, by rw [eP, unlink_o (by omega)]; rfl, fun k hk => oP k (by omega)⟩
  intro r' hr'
  rw [rowL_cong (oP 3 (by omega)), oP 6 (by omega), p1]
  have hRr := hR r' hr'
  by_cases q : r' = r
  · subst q
    rw [show upd (u 1) r' (u 6 s) r' = u 6 s from if_pos rfl, rowL_app, hBe, List.append_nil]
    rw [hrow, hBe] at hRr
    exact RC_pop hRr (fun _ _ => rfl)
  · rw [show upd (u 1) r (u 6 s) r' = u 1 r' from if_neg q]
    rw [rowL_app, rowL_cons, if_neg (by rw [h3]; exact fun z => q ((nI_eq (by omega) (by omega)).mp z).symm), ← rowL_app] at hRr
    exact hRr
end
section
/-! ===== UndoReader's order: the oldest change is forgotten ===== -/
theorem fg_o (c : Nat) {k : Nat} (hk : k ≠ 6) : ∀ (n d : Nat) (u : Mem), fgLoop c n d u k = u k
  | 0, _, _ => rfl
  | n + 1, d, u => by
    unfold fgLoop
    rw [fg_o c hk n (d + 1)]
    split
    · rfl
    · split
      · exact pk_ne hk
      · rfl
theorem fg_6 (c : Nat) : ∀ (n d : Nat) (u : Mem), n + d = 24 → ∀ e, fgLoop c n d u 6 e = if d ≤ e ∧ e < 24 ∧ bt (u 9 0) e = true ∧ u 6 e = nI c then -1 else u 6 e
  | 0, d, u, h, e => by
    rw [if_neg (fun z => by omega)]
    rfl
  | n + 1, d, u, h, e => by
    unfold fgLoop
    have hb := bit1 (u 9 0) (c := d) (by omega)
    obtain ⟨w, ew⟩ : ∃ w, w = (if ((u 9 0 >>> (nI d &&& 31)) &&& 1) = 0 then u else if u 6 d = nI c then pk u 6 d (b8 (-1)) else u) := ⟨_, rfl⟩
    rw [← ew, fg_6 c n (d + 1) w (by omega) e]
    have w9 : w 9 = u 9 := by
      rw [ew]
      split
      · rfl
      · split
        · exact pk_ne (by omega)
        · rfl
    have w6 : w 6 e = if e = d ∧ bt (u 9 0) d = true ∧ u 6 d = nI c then -1 else u 6 e := by
      rw [ew]
      split
      · rename_i q
        have := hb.mp q
        rw [if_neg (fun z => by rw [this] at z; exact absurd z.2.1 (by decide))]
      · rename_i q
        have hbt : bt (u 9 0) d = true := by
          have : ¬ bt (u 9 0) d = false := fun z => q (hb.mpr z)
          simpa using this
        split
        · rename_i q1
          rw [pk_at, b8_m1]
          by_cases q2 : e = d
          · rw [if_pos ⟨q2, hbt, q1⟩, q2]
            exact pk_us
          · rw [if_neg (fun z => q2 z.1)]
            exact pk_un q2
        · rename_i q1
          rw [if_neg (fun z => q1 z.2.2)]
    by_cases q2 : e = d
    · rw [w9, w6]
      subst q2
      rw [if_neg (fun z => by omega)]
      by_cases q3 : bt (u 9 0) e = true ∧ u 6 e = nI c
      · rw [if_pos ⟨rfl, q3⟩, if_pos ⟨Nat.le_refl _, by omega, q3⟩]
      · rw [if_neg (fun z => q3 z.2), if_neg (fun z => q3 z.2.2)]
    · have w6' : w 6 e = u 6 e := by rw [w6, if_neg (fun z => q2 z.1)]
      rw [w9, w6']
      by_cases q3 : d + 1 ≤ e ∧ e < 24 ∧ bt (u 9 0) e = true ∧ u 6 e = nI c
      · rw [if_pos q3, if_pos ⟨by omega, q3.2⟩]
      · rw [if_neg q3, if_neg (fun z => q3 ⟨by omega, z.2⟩)]
theorem X_forget {u : Mem} {s : Nat} {B : List Nat} (h : SL0 u (s :: B)) (hR : RCs u (s :: B)) (hop : u 15 (ix (u 5 s)) = 0 ↔ ∃ x, x < 4 ∧ u 16 x = u 5 s) :
    ∃ r, r < 8 ∧ u 3 s = nI r ∧ SL0 (forgetF u) B ∧ RCs (forgetF u) B ∧ forgetF u 2 = upd (u 2) r (if u 15 (ix (u 5 s)) ≤ u 2 r then u 2 r else u 15 (ix (u 5 s))) ∧ (∀ k, k = 0 ∨ k = 3 ∨ k = 4 ∨ k = 5 ∨ 14 < k → forgetF u k = u k) := by
  have h0 := h
  obtain ⟨W, nd, hlt, hu, hc, hdl, h14, h13⟩ := h
  have hs24 : s < 24 := hlt s List.mem_cons_self
  have h10 : u 10 0 = nI s := hdl.1
  have hix : ix (u 10 0) = s := by rw [h10]; exact ix_nI (by omega)
  obtain ⟨r, hr, h3⟩ : okP 8 (u 3 s) := W 3 s
  have hix3 : ix (u 3 s) = r := by rw [h3]; exact ix_nI (by omega)
  obtain ⟨num, enum⟩ : ∃ num, num = u 15 (ix (u 5 s)) := ⟨_, rfl⟩
  have eF : forgetF u = unlinkF (fgLoop s 24 0 (fg2F (fg1F u r num) r s)) s := by
    show unlinkF (fgLoop (ix (u 10 0)) 24 0 (fg2F (fg1F u (ix (u 3 (ix (u 10 0)))) (u 15 (ix (u 5 (ix (u 10 0)))))) (ix (u 3 (ix (u 10 0)))) (ix (u 10 0)))) (ix (u 10 0)) = _
    rw [hix, hix3, enum]
  have o1 : ∀ k, k ≠ 2 → fg1F u r num k = u k := fun k hk => by
    unfold fg1F
    split
    · rfl
    · exact pk_ne hk
  have o2 : ∀ k, k ≠ 1 → fg2F (fg1F u r num) r s k = fg1F u r num k := fun k hk => by
    unfold fg2F
    split
    · exact pk_ne hk
    · rfl
  have oF : ∀ k, k = 0 ∨ k = 3 ∨ k = 4 ∨ k = 5 ∨ 14 < k → forgetF u k = u k := fun k hk => by
    rw [eF, unlink_o (by omega), fg_o s (by omega), o2 k (by omega), o1 k (by omega)]
  have f2 : forgetF u 2 = upd (u 2) r (if num ≤ u 2 r then u 2 r else num) := by
    rw [eF, unlink_o (by omega), fg_o s (by omega), o2 2 (by omega)]
    unfold fg1F
    split
    · funext j
      by_cases q : j = r
      · rw [q]; exact pk_us.symm
      · exact (pk_un q).symm
    · rw [pk_at]
  have f1 : forgetF u 1 = upd (u 1) r (if u 1 r = nI s then -1 else u 1 r) := by
    rw [eF, unlink_o (by omega), fg_o s (by omega)]
    unfold fg2F
    rw [o1 1 (by omega)]
    split
    · rw [pk_at, o1 1 (by omega), b8_m1]
    · rw [o1 1 (by omega)]
      funext j
      by_cases q : j = r
      · rw [q]; exact pk_us.symm
      · exact (pk_un q).symm
  have f6 : ∀ e, e < 24 → e ∈ s :: B → forgetF u 6 e = if u 6 e = nI s then -1 else u 6 e := fun e he hm => by
    rw [eF, unlink_o (by omega), fg_6 s 24 0 _ rfl e, o2 9 (by omega), o1 9 (by omega), o2 6 (by omega), o1 6 (by omega)]
    by_cases q : u 6 e = nI s
    · rw [if_pos q, if_pos ⟨Nat.zero_le _, he, (hu e he).mpr hm, q⟩]
    · rw [if_neg q, if_neg (fun z => q z.2.2.2)]
  have Wf : WF (fgLoop s 24 0 (fg2F (fg1F u r num) r s)) := by
    refine WF_fgLoop _ _ _ _ ?_
    have h1 : WF (fg1F u r num) := by
      unfold fg1F
      split
      · exact W
      · exact WF_pk W trivial
    unfold fg2F
    split
    · exact WF_pk h1 okN_m1
    · exact h1
  have og : ∀ k, k = 5 ∨ (7 ≤ k ∧ k ≤ 14) ∨ k = 16 ∨ k = 15 → fgLoop s 24 0 (fg2F (fg1F u r num) r s) k = u k := fun k hk => by
    rw [fg_o s (by omega), o2 k (by omega), o1 k (by omega)]
  have hS2 : SL0 (fgLoop s 24 0 (fg2F (fg1F u r num) r s)) ([] ++ s :: B) := SL0_cong h0 Wf (fun k hk => og k (by omega))
  have hSu := SL0_unlink hS2 (by rw [og 15 (by omega), og 5 (by omega), og 16 (by omega)]; exact hop)
  rw [← eF] at hSu
  have hsB := (List.nodup_cons.mp nd).1
  refine ⟨r, hr, h3, hSu, ?_, by rw [f2, enum], oF⟩
  intro r' hr'
  have hRr := hR r' hr'
  rw [rowL_cons] at hRr
  rw [rowL_cong (oF 3 (by omega)), f1]
  have hsub : ∀ z ∈ rowL u B r', z ∈ B := fun z hz => (List.mem_filter.mp hz).1
  have hB24 : ∀ z ∈ B, z < 24 := fun z hz => hlt z (List.mem_cons_of_mem _ hz)
  by_cases q : r' = r
  · subst q
    rw [if_pos h3] at hRr
    refine RC_drop (c := s) (ls := rowL u B r') ?_ ?_ hRr (fun z hz => ?_) ?_
    · intro z hz
      rcases List.mem_cons.mp hz with e | e
      · rw [e]; exact hs24
      · exact hB24 z (hsub z e)
    · exact List.nodup_cons.mpr ⟨fun z => hsB (hsub s z), (List.nodup_cons.mp nd).2.filter _⟩
    · exact f6 z (hB24 z (hsub z hz)) (List.mem_cons_of_mem _ (hsub z hz))
    · exact pk_us
  · rw [if_neg (by rw [h3]; exact fun z => q ((nI_eq (by omega) (by omega)).mp z).symm)] at hRr
    rw [show upd (u 1) r (if u 1 r = nI s then -1 else u 1 r) r' = u 1 r' from pk_un q]
    refine RC_keep hRr (fun z hz => ?_)
    rw [f6 z (hB24 z (hsub z hz)) (List.mem_cons_of_mem _ (hsub z hz)), if_neg]
    intro e
    obtain ⟨l1, l2, hl⟩ := List.append_of_mem hz
    have e2 := hRr.2 l1 z l2 hl
    rw [e] at e2
    obtain ⟨t, ht⟩ := ltI_mem (l := l1) (fun y hy => hB24 y (hsub y (by rw [hl]; simp [hy]))) hs24 e2.symm
    exact hsB (hsub s (by rw [hl, ht]; simp))
end
section
/-! ===== the two memories held against each other: P is the list of (slot, place in the model's list) of the remembered changes, in order of time ===== -/
def lastv (v : Mem) (r : Int32) : Nat → Int32
  | 0 => 0
  | n + 1 => if v 1 n = r ∧ ¬ v 5 n < 0 then v 2 n else lastv v r n
def LX (u v : Mem) (N : Nat) (P : List (Nat × Nat)) : Prop :=
  SL0 u (P.map Prod.fst) ∧ RCs u (P.map Prod.fst) ∧ P.Pairwise (fun a b => a.2 < b.2) ∧ (∀ a ∈ P, a.2 < N) ∧
  (∀ a ∈ P, u 3 a.1 = v 1 a.2 ∧ u 4 a.1 = v 3 a.2 ∧ u 15 (ix (u 5 a.1)) = v 5 a.2 ∧ ¬ v 5 a.2 < 0 ∧ (v 5 a.2 = 0 → u 16 (ix (v 4 a.2)) = u 5 a.1)) ∧
  (∀ x, x < 4 → ∀ y, y < 4 → ¬ u 16 x < 0 → u 16 x = u 16 y → x = y) ∧ (∀ x, x < 4 → ¬ u 16 x < 0 → u 15 (ix (u 16 x)) = 0) ∧
  (∀ c, c < N → okP 4 (v 4 c)) ∧ (∀ c, okP 8 (v 1 c)) ∧
  (∀ c, c < N → v 5 c = 0 → ∃ a ∈ P, a.2 = c) ∧
  (∀ c, c < N → ¬ v 5 c < 0 → (∀ a ∈ P, ¬ a.2 = c) → (∀ a ∈ P, c < a.2) ∧ v 5 c ≤ v 10 (ix (v 1 c))) ∧
  (∀ c, c < N → ¬ v 5 c < 0 → v 3 c = lastv v (v 1 c) c) ∧
  (∀ r, r < 8 → u 0 r = lastv v (nI r) N ∧ u 2 r = v 10 r) ∧
  (∀ a ∈ P, ∀ b ∈ P, a.2 < b.2 → v 1 a.2 = v 1 b.2 → v 5 a.2 = 0 → v 5 b.2 = 0) ∧
  (∀ a ∈ P, v 5 a.2 = 0 → v 9 (ix (v 1 a.2)) = v 4 a.2)
def LM (v : Mem) (N : Nat) (P : List (Nat × Nat)) : Prop :=
  v 0 0 = nI N ∧ (∀ c, c < N → (v 6 c = 1 ∧ ∃ a ∈ P, a.2 = c) ∨ (v 6 c = 0 ∧ ∀ a ∈ P, ¬ a.2 = c)) ∧ (∀ r, r < 8 → v 8 r = lastv v (nI r) N)
def EX (u v : Mem) (P : List (Nat × Nat)) : Prop :=
  (∀ x, x < 4 → ¬ u 16 x < 0 → ∃ a ∈ P, u 5 a.1 = u 16 x) ∧ (∀ r, r < 8 → v 9 r = -4 ∨ ∃ a ∈ P, v 1 a.2 = nI r ∧ v 5 a.2 = 0 ∧ v 4 a.2 = v 9 r)
def INV (k : Nat) (u v : Mem) : Prop := ∃ (N t : Nat) (P : List (Nat × Nat)), LX u v N P ∧ LM v N P ∧ EX u v P ∧ u 17 0 = nI t ∧ v 7 0 = nI t ∧ t ≤ k ∧ N ≤ k
/-- the remembered changes of a row -/
def rowP (v : Mem) (P : List (Nat × Nat)) (r : Nat) : List (Nat × Nat) := P.filter (fun a => decide (v 1 a.2 = nI r))
theorem rowL_P {u v : Mem} {P : List (Nat × Nat)} (h : ∀ a ∈ P, u 3 a.1 = v 1 a.2) (r : Nat) : rowL u (P.map Prod.fst) r = (rowP v P r).map Prod.fst := by
  unfold rowL rowP
  rw [List.filter_map]
  congr 1
  apply List.filter_congr
  intro a ha
  simp [h a ha]
theorem fst_inj {P : List (Nat × Nat)} (nd : (P.map Prod.fst).Nodup) {a b : Nat × Nat} (ha : a ∈ P) (hb : b ∈ P) (e : a.1 = b.1) : a = b := by
  induction P with
  | nil => cases ha
  | cons z t ih =>
    rw [List.map_cons, List.nodup_cons] at nd
    rcases List.mem_cons.mp ha with h1 | h1 <;> rcases List.mem_cons.mp hb with h2 | h2
    · rw [h1, h2]
    · exact absurd (List.mem_map.mpr ⟨b, h2, by rw [← e, h1]⟩) nd.1
    · exact absurd (List.mem_map.mpr ⟨a, h1, by rw [e, h2]⟩) nd.1
    · exact ih nd.2 h1 h2
theorem snd_inj {P : List (Nat × Nat)} (pw : P.Pairwise (fun a b => a.2 < b.2)) {a b : Nat × Nat} (ha : a ∈ P) (hb : b ∈ P) (e : a.2 = b.2) : a = b := by
  induction P with
  | nil => cases ha
  | cons z t ih =>
    rw [List.pairwise_cons] at pw
    rcases List.mem_cons.mp ha with h1 | h1 <;> rcases List.mem_cons.mp hb with h2 | h2
    · rw [h1, h2]
    · have := pw.1 b h2
      rw [← h1] at this
      omega
    · have := pw.1 a h1
      rw [← h2] at this
      omega
    · exact ih pw.2 h1 h2
theorem pair_of_slot {P : List (Nat × Nat)} {s : Nat} (h : s ∈ P.map Prod.fst) : ∃ c, (s, c) ∈ P := by
  obtain ⟨a, ha, e⟩ := List.mem_map.mp h
  exact ⟨a.2, by rw [← e]; exact ha⟩
/-- the newest change of a row: a pair of P, or none -/
theorem newest_of {u v : Mem} {N : Nat} {P : List (Nat × Nat)} (h : LX u v N P) {r : Nat} (hr : r < 8) :
    (u 1 r = -1 ∧ ∀ a ∈ P, ¬ v 1 a.2 = nI r) ∨ ∃ a ∈ P, v 1 a.2 = nI r ∧ u 1 r = nI a.1 ∧ a.1 < 24 ∧ ∀ b ∈ P, v 1 b.2 = nI r → b = a ∨ b.2 < a.2 := by
  obtain ⟨hS, hR, pw, hPN, hel, -⟩ := h
  have hRr := hR r hr
  rw [rowL_P (fun a ha => (hel a ha).1)] at hRr
  have hsub : ∀ a, a ∈ rowP v P r ↔ a ∈ P ∧ v 1 a.2 = nI r := fun a => by
    unfold rowP
    rw [List.mem_filter]
    simp
  have pwr : (rowP v P r).Pairwise (fun a b => a.2 < b.2) := pw.filter _
  rcases List.eq_nil_or_concat (rowP v P r) with e | ⟨Q, a, e⟩
  · refine Or.inl ⟨?_, fun a ha h1 => ?_⟩
    · rw [hRr.1, e]; rfl
    · have := (hsub a).mpr ⟨ha, h1⟩
      rw [e] at this
      cases this
  · rw [List.concat_eq_append] at e
    have ha := (hsub a).mp (by rw [e]; simp)
    refine Or.inr ⟨a, ha.1, ha.2, ?_, hS.2.2.1 a.1 (List.mem_map.mpr ⟨a, ha.1, rfl⟩), fun b hb h1 => ?_⟩
    · rw [hRr.1, e, List.map_append]
      exact ltI_app _ _
    · have hbm := (hsub b).mpr ⟨hb, h1⟩
      rw [e] at hbm pwr
      rcases List.mem_append.mp hbm with z | z
      · exact Or.inr ((List.pairwise_append.mp pwr).2.2 b z a (by simp))
      · exact Or.inl (List.mem_singleton.mp z)
theorem okP4 {x : Int32} (h : okP 4 x) : ∃ y, y < 4 ∧ x = nI y := h
theorem neg4 {y : Nat} (h : y < 4) : ¬ nI y = -4 := by
  rcases (show y = 0 ∨ y = 1 ∨ y = 2 ∨ y = 3 by omega) with rfl | rfl | rfl | rfl <;> decide
/-- who has locked a row, in both -/
theorem lock_rel {u v : Mem} {N : Nat} {P : List (Nat × Nat)} (h : LX u v N P) (hE : EX u v P) {r : Nat} (hr : r < 8) :
    (v 9 r = -4 ∧ lockF u r = -1) ∨ ∃ y, y < 4 ∧ v 9 r = nI y ∧ lockF u r = u 16 y ∧ ¬ u 16 y < 0 := by
  have hnew := newest_of h hr
  obtain ⟨hS, hR, pw, hPN, hel, hinj, hop, hwho, hrow, hopen, hold, hbef, hrows, hsuf, hlk⟩ := h
  have W := hS.1
  rcases hnew with ⟨h1, h2⟩ | ⟨a, ha, h1, h2, h3, h4⟩
  · refine Or.inl ⟨?_, ?_⟩
    · rcases hE.2 r hr with z | ⟨a, ha, z, -⟩
      · exact z
      · exact absurd z (h2 a ha)
    · unfold lockF
      rw [h1]
      exact if_pos (by decide)
  · have eix : ix (u 1 r) = a.1 := by rw [h2]; exact ix_nI (by omega)
    obtain ⟨e3, e4, e15, e5, e16⟩ := hel a ha
    obtain ⟨p, hp, ep⟩ : okP 32 (u 5 a.1) := W 5 a.1
    have hlock : lockF u r = if v 5 a.2 = 0 then u 5 a.1 else -1 := by
      unfold lockF isOpenF
      rw [eix, e15, if_neg (by rw [h2]; exact nI_pos (by omega))]
      by_cases q : v 5 a.2 = 0
      · rw [if_pos q, if_neg (by decide), if_pos q]
      · rw [if_neg q, if_pos rfl, if_neg q]
    by_cases q : v 5 a.2 = 0
    · obtain ⟨y, hy, ey⟩ := hwho a.2 (hPN a ha)
      have e16' := e16 q
      rw [ey, ix_nI (by omega)] at e16'
      have hl := hlk a ha q
      rw [h1, ix_nI (by omega)] at hl
      refine Or.inr ⟨y, hy, by rw [hl, ey], by rw [hlock, if_pos q, e16'], ?_⟩
      rw [e16', ep]
      exact nI_pos (by omega)
    · refine Or.inl ⟨?_, by rw [hlock, if_neg q]⟩
      rcases hE.2 r hr with z | ⟨b, hb, z1, z2, -⟩
      · exact z
      · rcases h4 b hb z1 with e | e
        · rw [e] at z2
          exact absurd z2 q
        · exact absurd (hsuf b hb a ha e (z1.trans h1.symm) z2) q
-- ----- counting -----
def cN (f : Nat → Bool) : Nat → Nat
  | 0 => 0
  | n + 1 => cN f n + if f n = true then 1 else 0
theorem cN_s (f : Nat → Bool) (n : Nat) : cN f (n + 1) = cN f n + if f n = true then 1 else 0 := rfl
theorem cN_len (f : Nat → Bool) : ∀ (n : Nat) (l : List Nat), l.Nodup → (∀ c, c ∈ l ↔ c < n ∧ f c = true) → l.length = cN f n
  | 0, l, _, h => by
    cases l with
    | nil => rfl
    | cons a t => exact absurd ((h a).mp List.mem_cons_self).1 (by omega)
  | n + 1, l, nd, h => by
    have h1 := cN_len f n (l.erase n) (nd.erase n) (fun c => by
      rw [nd.mem_erase_iff, h c]
      constructor
      · rintro ⟨h1, h2, h3⟩
        exact ⟨by omega, h3⟩
      · rintro ⟨h1, h2⟩
        exact ⟨by omega, by omega, h2⟩)
    rw [List.length_erase] at h1
    unfold cN
    rw [← h1]
    by_cases q : n ∈ l
    · rw [if_pos q, if_pos ((h n).mp q).2]
      have := List.length_pos_of_mem q
      omega
    · rw [if_neg q, if_neg (fun z => q ((h n).mpr ⟨by omega, z⟩))]
      rfl
theorem snd_nodup {P : List (Nat × Nat)} (pw : P.Pairwise (fun a b => a.2 < b.2)) : (P.map Prod.snd).Nodup := by
  rw [List.nodup_iff_pairwise_ne, List.pairwise_map]
  exact pw.imp (fun h => by omega)
theorem cN_P {P : List (Nat × Nat)} {N : Nat} (f : Nat → Bool) (pw : P.Pairwise (fun a b => a.2 < b.2)) (hN : ∀ a ∈ P, a.2 < N) (hf : ∀ c, c < N → f c = true → ∃ a ∈ P, a.2 = c) : cN f N = P.countP (fun a => f a.2) := by
  have h1 := cN_len f N ((P.map Prod.snd).filter f) ((snd_nodup pw).filter _) (fun c => by
    rw [List.mem_filter, List.mem_map]
    constructor
    · rintro ⟨⟨a, ha, e⟩, h2⟩
      exact ⟨by rw [← e]; exact hN a ha, h2⟩
    · rintro ⟨h1, h2⟩
      obtain ⟨a, ha, e⟩ := hf c h1 h2
      exact ⟨⟨a, ha, e⟩, h2⟩)
  rw [← h1, List.filter_map, List.length_map, List.countP_eq_length_filter]
  rfl
theorem cN_le (f : Nat → Bool) : ∀ n, cN f n ≤ n
  | 0 => Nat.le_refl 0
  | n + 1 => by
    unfold cN
    have := cN_le f n
    split <;> omega
theorem remF_c (v : Mem) : ∀ (n c : Nat), remF v n c (nI (cN (fun i => decide (¬ v 6 i = 0)) c)) = nI (cN (fun i => decide (¬ v 6 i = 0)) (c + n))
  | 0, c => rfl
  | n + 1, c => by
    unfold remF
    rw [show c + (n + 1) = (c + 1) + n by omega, ← remF_c v n (c + 1)]
    congr 1
    rw [cN_s]
    by_cases q : v 6 c = 0
    · rw [if_pos q, if_neg (by simpa using q)]
      rfl
    · rw [if_neg q, if_pos (by simpa using q)]
      exact nI_1 _
theorem cntF_c (v : Mem) (x : Int32) (hx : ¬ sessF x = 0) : ∀ (n c : Nat), cntF v x n c (nI (cN (fun i => decide (v 4 i = x ∧ v 5 i = 0)) c)) = nI (cN (fun i => decide (v 4 i = x ∧ v 5 i = 0)) (c + n))
  | 0, c => rfl
  | n + 1, c => by
    unfold cntF
    rw [show c + (n + 1) = (c + 1) + n by omega, ← cntF_c v x hx n (c + 1)]
    congr 1
    unfold cntStep
    rw [if_neg hx, cN_s]
    by_cases q : v 4 c = x
    · rw [if_pos q]
      by_cases q2 : v 5 c = 0
      · rw [if_pos q2, if_pos (by simpa using ⟨q, q2⟩)]
        exact nI_1 _
      · rw [if_neg q2, if_neg (by simp [q2])]
        rfl
    · rw [if_neg q, if_neg (by simp [q])]
      rfl
theorem cntF_n (v : Mem) (x : Int32) (hx : sessF x = 0) : ∀ (n c : Nat) (a : Int32), cntF v x n c a = a
  | 0, c, a => rfl
  | n + 1, c, a => by
    unfold cntF cntStep
    rw [if_pos hx]
    exact cntF_n v x hx n (c + 1) a
theorem rem_rel {u v : Mem} {N : Nat} {P : List (Nat × Nat)} (h : LX u v N P) (hM : LM v N P) : remF v N 0 0 = nI P.length ∧ u 12 0 = nI P.length := by
  obtain ⟨hS, hR, pw, hPN, -⟩ := h
  refine ⟨?_, by rw [hS.2.2.2.2.1, List.length_map]⟩
  have h1 := remF_c v N 0
  rw [show nI (cN (fun i => decide (¬ v 6 i = 0)) 0) = 0 from nI_0, Nat.zero_add] at h1
  rw [h1, cN_P _ pw hPN (fun c hc hf => ?_), List.countP_eq_length.mpr]
  · intro a ha
    rcases hM.2.1 a.2 (hPN a ha) with ⟨z, -⟩ | ⟨-, z⟩
    · rw [z]; decide
    · exact absurd rfl (z a ha)
  · rcases hM.2.1 c hc with ⟨-, z⟩ | ⟨z, -⟩
    · exact z
    · simp [z] at hf
theorem cnt_rel {u v : Mem} {N : Nat} {P : List (Nat × Nat)} (h : LX u v N P) {j : Nat} (hj : j < 4) : cntF v (nI j) N 0 0 = nI (P.countP (fun a => decide (v 4 a.2 = nI j ∧ v 5 a.2 = 0))) := by
  obtain ⟨hS, hR, pw, hPN, hel, hinj, hop, hwho, hrow, hopen, -⟩ := h
  have hx : ¬ sessF (nI j) = 0 := by
    rcases (show j = 0 ∨ j = 1 ∨ j = 2 ∨ j = 3 by omega) with rfl | rfl | rfl | rfl <;> decide
  have h1 := cntF_c v (nI j) hx N 0
  rw [show nI (cN (fun i => decide (v 4 i = nI j ∧ v 5 i = 0)) 0) = 0 from nI_0, Nat.zero_add] at h1
  rw [h1, cN_P _ pw hPN (fun c hc hf => hopen c hc (by simpa using (of_decide_eq_true hf).2))]
theorem changes_rel {u v : Mem} {N : Nat} {P : List (Nat × Nat)} (h : LX u v N P) (hE : EX u v P) {j : Nat} (hj : j < 4) :
    (u 16 j < 0 ∧ cntF v (nI j) N 0 0 = 0) ∨ (¬ u 16 j < 0 ∧ cntF v (nI j) N 0 0 = u 14 (ix (u 16 j)) ∧ ¬ cntF v (nI j) N 0 0 = 0) := by
  rw [cnt_rel h hj]
  obtain ⟨hS, hR, pw, hPN, hel, hinj, hop, hwho, hrow, hopen, -⟩ := h
  obtain ⟨W, nd, hlt, -, -, -, h14, -⟩ := hS
  have hlen : P.length ≤ 24 := by
    have := nodup_le 24 _ nd hlt
    rwa [List.length_map] at this
  by_cases q : u 16 j < 0
  · refine Or.inl ⟨q, ?_⟩
    rw [List.countP_eq_zero.mpr]
    · exact nI_0
    · intro a ha z
      obtain ⟨z1, z2⟩ := of_decide_eq_true z
      have e16 := (hel a ha).2.2.2.2 z2
      rw [z1, ix_nI (by omega)] at e16
      obtain ⟨p, hp, ep⟩ : okP 32 (u 5 a.1) := W 5 a.1
      rw [e16, ep] at q
      exact nI_pos (by omega) q
  · obtain ⟨p, hp, ep⟩ : ∃ p, p < 32 ∧ u 16 j = nI p := ⟨_, (okN.ix (W 16 j) (by decide) q).2, (okN.ix (W 16 j) (by decide) q).1⟩
    have eix : ix (u 16 j) = p := by rw [ep]; exact ix_nI (by omega)
    have key : P.countP (fun a => decide (v 4 a.2 = nI j ∧ v 5 a.2 = 0)) = (P.map Prod.fst).countP (fun s => decide (u 5 s = nI p)) := by
      rw [List.countP_map]
      apply List.countP_congr
      intro a ha
      simp only [Function.comp, decide_eq_true_eq]
      obtain ⟨e3, e4, e15, e5, e16⟩ := hel a ha
      constructor
      · rintro ⟨z1, z2⟩
        have := e16 z2
        rw [z1, ix_nI (by omega), ep] at this
        exact this.symm
      · intro z
        have z2 : v 5 a.2 = 0 := by
          rw [← e15, z, ← ep]
          exact hop j hj q
        refine ⟨?_, z2⟩
        obtain ⟨y, hy, ey⟩ := hwho a.2 (hPN a ha)
        have := e16 z2
        rw [ey, ix_nI (by omega), z, ← ep] at this
        rw [ey, hinj y hy j hj (by rw [this]; exact q) this]
    refine Or.inr ⟨q, by rw [eix, h14 p hp, key], ?_⟩
    obtain ⟨a, ha, z⟩ := hE.1 j hj q
    have hpos : 0 < (P.map Prod.fst).countP (fun s => decide (u 5 s = nI p)) := List.countP_pos_iff.mpr ⟨a.1, List.mem_map.mpr ⟨a, ha, rfl⟩, by rw [z, ep]; simp⟩
    have hle : (P.map Prod.fst).countP (fun s => decide (u 5 s = nI p)) ≤ 24 := Nat.le_trans List.countP_le_length (by rw [List.length_map]; exact hlen)
    rw [key]
    exact nI_ne0 hpos (by omega)
end
section
/-! ===== the invariant under a pop and under a forgetting ===== -/
theorem pk_i {u : Mem} {k i j : Nat} {x : Int32} : pk u k i x k j = if j = i then x else u k j := by
  rw [pk_at]; rfl
theorem lastv_s (v : Mem) (r : Int32) (n : Nat) : lastv v r (n + 1) = if v 1 n = r ∧ ¬ v 5 n < 0 then v 2 n else lastv v r n := rfl
theorem lastv_congr {v v' : Mem} (r : Int32) : ∀ M : Nat, (∀ n, n < M → v' 1 n = v 1 n ∧ v' 2 n = v 2 n ∧ (v' 5 n < 0 ↔ v 5 n < 0)) → lastv v' r M = lastv v r M
  | 0, _ => rfl
  | M + 1, h => by
    obtain ⟨h1, h2, h3⟩ := h M (by omega)
    rw [lastv_s, lastv_s, h1, h2, lastv_congr r M (fun n hn => h n (by omega))]
    by_cases q : v 1 M = r ∧ ¬ v 5 M < 0
    · rw [if_pos q, if_pos ⟨q.1, fun z => q.2 (h3.mp z)⟩]
    · rw [if_neg q, if_neg (fun z => q ⟨z.1, fun y => z.2 (h3.mpr y)⟩)]
theorem lastv_skip {v : Mem} {r : Int32} {M : Nat} : ∀ K : Nat, (∀ n, M ≤ n → n < M + K → v 1 n = r → v 5 n < 0) → lastv v r (M + K) = lastv v r M
  | 0, _ => rfl
  | K + 1, h => by
    rw [show M + (K + 1) = (M + K) + 1 by omega, lastv_s, if_neg (fun z => z.2 (h (M + K) (by omega) (by omega) z.1)), lastv_skip K (fun n h1 h2 => h n h1 (by omega))]
theorem lastv_skip' {v : Mem} {r : Int32} {M K : Nat} (hMK : M ≤ K) (h : ∀ n, M ≤ n → n < K → v 1 n = r → v 5 n < 0) : lastv v r K = lastv v r M := by
  have := lastv_skip (v := v) (r := r) (M := M) (K - M) (fun n h1 h2 => h n h1 (by omega))
  rwa [show M + (K - M) = K by omega] at this
theorem nodup_split {A B A2 B2 : List Nat} {s : Nat} (h : A ++ s :: B = A2 ++ s :: B2) (nd : (A ++ s :: B).Nodup) : A = A2 ∧ B = B2 := by
  obtain ⟨ndA, ndB, nAB⟩ := List.nodup_append.mp nd
  have hsB := (List.nodup_cons.mp ndB).1
  rcases app_split h with ⟨A', h1, h2⟩ | ⟨B', h1, h2⟩
  · exact absurd rfl (nAB s (by rw [h1]; simp) s (by simp))
  · cases B' with
    | nil => exact ⟨by simpa using h1.symm, by simpa using h2⟩
    | cons z t =>
      rw [List.cons_append, List.cons.injEq] at h2
      exact absurd (by rw [h2.2]; simp) hsB
theorem LX_open_iff {u v : Mem} {N : Nat} {P : List (Nat × Nat)} (h : LX u v N P) {a : Nat × Nat} (ha : a ∈ P) : u 15 (ix (u 5 a.1)) = 0 ↔ ∃ x, x < 4 ∧ u 16 x = u 5 a.1 := by
  obtain ⟨hS, hR, pw, hPN, hel, hinj, hop, hwho, hrow, hopen, hold, hbef, hrows, hsuf, hlk⟩ := h
  obtain ⟨e3, e4, e15, e5, e16⟩ := hel a ha
  constructor
  · intro z
    obtain ⟨y, hy, ey⟩ := hwho a.2 (hPN a ha)
    have := e16 (by rw [← e15]; exact z)
    rw [ey, ix_nI (by omega)] at this
    exact ⟨y, hy, this⟩
  · rintro ⟨x, hx, z⟩
    obtain ⟨p, hp, ep⟩ : okP 32 (u 5 a.1) := hS.1 5 a.1
    rw [← z]
    exact hop x hx (by rw [z, ep]; exact nI_pos (by omega))
/-- what lies in the model's list beyond a row's newest remembered change is not of the row, or was rolled back -/
theorem LX_beyond {u v : Mem} {N : Nat} {P : List (Nat × Nat)} (h : LX u v N P) {a : Nat × Nat} (ha : a ∈ P) {r : Nat} (hnew : ∀ b ∈ P, v 1 b.2 = nI r → b = a ∨ b.2 < a.2) : ∀ c, a.2 < c → c < N → v 1 c = nI r → v 5 c < 0 := by
  obtain ⟨hS, hR, pw, hPN, hel, hinj, hop, hwho, hrow, hopen, hold, hbef, hrows, hsuf, hlk⟩ := h
  intro c h1 h2 h3
  apply Classical.byContradiction
  intro h5
  by_cases q : ∃ b ∈ P, b.2 = c
  · obtain ⟨b, hb, e⟩ := q
    rcases hnew b hb (by rw [e]; exact h3) with z | z
    · rw [z] at e; omega
    · omega
  · have := (hold c h2 h5 (fun b hb e => q ⟨b, hb, e⟩)).1 a ha
    omega
theorem LX_pop {u v : Mem} {N : Nat} {P : List (Nat × Nat)} (h : LX u v N P) {r : Nat} (hr : r < 8) {a : Nat × Nat} (ha : a ∈ P) (h1 : v 1 a.2 = nI r) (hs : u 1 r = nI a.1) (hnew : ∀ b ∈ P, v 1 b.2 = nI r → b = a ∨ b.2 < a.2) :
    ∃ A B, P = A ++ a :: B ∧ LX (popF u r) (pk v 5 a.2 (-1)) N (A ++ B) ∧ (∀ k, k = 2 ∨ k = 3 ∨ k = 4 ∨ k = 5 ∨ 14 < k → popF u r k = u k) := by
  have hiff := LX_open_iff h ha
  have hbey := LX_beyond h ha hnew
  obtain ⟨hS, hR, pw, hPN, hel, hinj, hop, hwho, hrow, hopen, hold, hbef, hrows, hsuf, hlk⟩ := h
  have ha24 : a.1 < 24 := hS.2.2.1 a.1 (List.mem_map.mpr ⟨a, ha, rfl⟩)
  obtain ⟨A0, B0, hAB, hB, h3, hS', hR', h0, ho⟩ := X_pop hS hR hr ha24 hs hiff
  obtain ⟨A, B, hP⟩ := List.append_of_mem ha
  have hsp : A0 = A.map Prod.fst ∧ B0 = B.map Prod.fst := by
    refine nodup_split (s := a.1) ?_ (by rw [← hAB]; exact hS.2.1)
    rw [← hAB, hP]; simp
  have emap : A0 ++ B0 = (A ++ B).map Prod.fst := by rw [hsp.1, hsp.2]; simp
  rw [emap] at hS' hR'
  have hsub : ∀ b, b ∈ A ++ B → b ∈ P := fun b hb => by
    rw [hP]
    rcases List.mem_append.mp hb with z | z
    · exact List.mem_append_left _ z
    · exact List.mem_append_right _ (List.mem_cons_of_mem _ z)
  have hmem : ∀ b, b ∈ P → b = a ∨ b ∈ A ++ B := fun b hb => by
    rw [hP] at hb
    rcases List.mem_append.mp hb with z | z
    · exact Or.inr (List.mem_append_left _ z)
    · rcases List.mem_cons.mp z with z | z
      · exact Or.inl z
      · exact Or.inr (List.mem_append_right _ z)
  have pw' : (A ++ B).Pairwise (fun a b => a.2 < b.2) := by
    refine List.Pairwise.sublist ?_ pw
    rw [hP]
    exact List.Sublist.append (List.Sublist.refl _) (List.sublist_cons_self _ _)
  have hne : ∀ b, b ∈ A ++ B → b.2 ≠ a.2 := fun b hb e => by
    have e2 : b = a := snd_inj pw (hsub b hb) ha e
    rw [hP] at pw
    obtain ⟨-, p2, p3⟩ := List.pairwise_append.mp pw
    rcases List.mem_append.mp hb with z | z
    · have := p3 b z a (by simp)
      omega
    · have := (List.pairwise_cons.mp p2).1 b z
      omega
  have v1 : pk v 5 a.2 (-1) 1 = v 1 := pk_ne (by omega)
  have v2 : pk v 5 a.2 (-1) 2 = v 2 := pk_ne (by omega)
  have v3 : pk v 5 a.2 (-1) 3 = v 3 := pk_ne (by omega)
  have v4 : pk v 5 a.2 (-1) 4 = v 4 := pk_ne (by omega)
  have v9 : pk v 5 a.2 (-1) 9 = v 9 := pk_ne (by omega)
  have v10 : pk v 5 a.2 (-1) 10 = v 10 := pk_ne (by omega)
  have v5n : ∀ c, c ≠ a.2 → pk v 5 a.2 (-1) 5 c = v 5 c := fun c hc => by rw [pk_i, if_neg hc]
  have v5a : pk v 5 a.2 (-1) 5 a.2 = -1 := by rw [pk_i, if_pos rfl]
  have neg1 : (-1 : Int32) < 0 := by decide
  have hlv : ∀ (ρ : Int32) (c : Nat), c ≤ N → (ρ = nI r → c ≤ a.2) → lastv (pk v 5 a.2 (-1)) ρ c = lastv v ρ c := by
    intro ρ c hc hρ
    induction c with
    | zero => rfl
    | succ c ih =>
      rw [lastv_s, lastv_s, v1, v2]
      by_cases e : c = a.2
      · have hρr : ¬ v 1 c = ρ := fun z => by
          have := hρ (by rw [← z, e]; exact h1)
          omega
        rw [if_neg (fun z => hρr z.1), if_neg (fun z => hρr z.1)]
        exact ih (by omega) (fun z => by have := hρ z; omega)
      · rw [v5n c e, ih (by omega) (fun z => by have := hρ z; omega)]
  have hlr : lastv (pk v 5 a.2 (-1)) (nI r) N = lastv v (nI r) a.2 := by
    rw [lastv_skip' (M := a.2) (Nat.le_of_lt (hPN a ha)), hlv _ _ (Nat.le_of_lt (hPN a ha)) (fun _ => Nat.le_refl _)]
    intro c q1 q2 q3
    rw [v1] at q3
    by_cases e : c = a.2
    · rw [e, v5a]; exact neg1
    · rw [v5n c e]
      exact hbey c (by omega) q2 q3
  refine ⟨A, B, hP, ⟨hS', hR', pw', fun b hb => hPN b (hsub b hb), ?_, ?_, ?_, ?_, ?_, ?_, ?_, ?_, ?_, ?_, ?_⟩, ho⟩
  · intro b hb
    rw [v1, v3, v4, v5n _ (hne b hb), ho 3 (by omega), ho 4 (by omega), ho 5 (by omega), ho 15 (by omega), ho 16 (by omega)]
    exact hel b (hsub b hb)
  · rw [ho 16 (by omega)]; exact hinj
  · rw [ho 16 (by omega), ho 15 (by omega)]; exact hop
  · rw [v4]; exact hwho
  · rw [v1]; exact hrow
  · intro c hc h5
    have hca : c ≠ a.2 := fun e => by
      rw [e, v5a] at h5
      exact absurd h5 (by decide)
    rw [v5n c hca] at h5
    obtain ⟨b, hb, e⟩ := hopen c hc h5
    rcases hmem b hb with z | z
    · rw [z] at e; exact absurd e.symm hca
    · exact ⟨b, z, e⟩
  · intro c hc h5 hb
    have hca : c ≠ a.2 := fun e => by
      rw [e, v5a] at h5
      exact h5 neg1
    rw [v5n c hca] at h5 ⊢
    rw [v1, v10]
    have := hold c hc h5 (fun b hb' e => by
      rcases hmem b hb' with z | z
      · rw [z] at e; exact hca e.symm
      · exact hb b z e)
    exact ⟨fun b hb' => this.1 b (hsub b hb'), this.2⟩
  · intro c hc h5
    have hca : c ≠ a.2 := fun e => by
      rw [e, v5a] at h5
      exact h5 neg1
    rw [v5n c hca] at h5
    rw [v1, v3, hlv _ _ (Nat.le_of_lt hc)]
    · exact hbef c hc h5
    · intro e
      apply Classical.byContradiction
      intro q
      exact h5 (hbey c (by omega) hc e)
  · intro r' hr'
    rw [h0, v10, ho 2 (by omega)]
    unfold upd
    by_cases q : r' = r
    · rw [if_pos q, q, hlr]
      obtain ⟨e3, e4, e15, e5, e16⟩ := hel a ha
      exact ⟨by rw [e4, hbef a.2 (hPN a ha) e5, h1], (hrows r hr).2⟩
    · rw [if_neg q, hlv _ _ (Nat.le_refl _) (fun z => absurd ((nI_eq (by omega) (by omega)).mp z) q)]
      exact hrows r' hr'
  · intro b hb c hc
    rw [v1, v5n _ (hne b hb), v5n _ (hne c hc)]
    exact hsuf b (hsub b hb) c (hsub c hc)
  · intro b hb
    rw [v1, v4, v9, v5n _ (hne b hb)]
    exact hlk b (hsub b hb)
end
section
theorem b1_0 : b1 0 = 0 := by decide
theorem b1_1 : b1 1 = 1 := by decide
theorem i_nle {x y : Int32} (h : ¬ x ≤ y) : y ≤ x := by
  rw [Int32.le_iff_toInt_le] at *
  omega
theorem i_tr {x y z : Int32} (h : x ≤ y) (h2 : y ≤ z) : x ≤ z := by
  rw [Int32.le_iff_toInt_le] at *
  omega
theorem i_rf (x : Int32) : x ≤ x := by
  rw [Int32.le_iff_toInt_le]
  omega
theorem i_nlt {x y : Int32} : ¬ x < y ↔ y ≤ x := by
  rw [Int32.le_iff_toInt_le, Int32.lt_iff_toInt_lt]
  omega
theorem i_le0 {x : Int32} (h : x ≤ 0) : x < 0 ∨ x = 0 := by
  by_cases e : x = 0
  · exact Or.inr e
  · refine Or.inl ?_
    rw [Int32.le_iff_toInt_le] at h
    rw [Int32.lt_iff_toInt_lt]
    have h2 : ¬ x.toInt = (0 : Int32).toInt := fun z => e (Int32.toInt_inj.mp z)
    omega
theorem i_0 (x : Int32) : x < 0 ∨ x = 0 ∨ ¬ x ≤ 0 := by
  by_cases h : x ≤ 0
  · rcases i_le0 h with z | z
    · exact Or.inl z
    · exact Or.inr (Or.inl z)
  · exact Or.inr (Or.inr h)
theorem LX_forget {u v : Mem} {N : Nat} {a : Nat × Nat} {P : List (Nat × Nat)} (h : LX u v N (a :: P)) (hM : LM v N (a :: P)) (hE : EX u v (a :: P)) (hn0 : ¬ v 5 a.2 = 0) :
    LX (forgetF u) (mfgF v a.2) N P ∧ LM (mfgF v a.2) N P ∧ EX (forgetF u) (mfgF v a.2) P ∧ (∀ k, k = 0 ∨ k = 3 ∨ k = 4 ∨ k = 5 ∨ 14 < k → forgetF u k = u k) ∧ (∀ k, k ≠ 6 → k ≠ 10 → mfgF v a.2 k = v k) := by
  have ha : a ∈ a :: P := List.mem_cons_self
  have hiff := LX_open_iff h ha
  obtain ⟨hS, hR, pw, hPN, hel, hinj, hop, hwho, hrow, hopen, hold, hbef, hrows, hsuf, hlk⟩ := h
  rw [List.map_cons] at hS hR
  obtain ⟨r, hr, h3, hS', hR', f2, ho⟩ := X_forget hS hR hiff
  obtain ⟨e3, e4, e15, e5, e16⟩ := hel a ha
  have h1 : v 1 a.2 = nI r := by rw [← e3]; exact h3
  have hix : ix (v 1 a.2) = r := by rw [h1]; exact ix_nI (by omega)
  have hsub : ∀ b, b ∈ P → b ∈ a :: P := fun b hb => List.mem_cons_of_mem _ hb
  obtain ⟨pa, pw'⟩ := List.pairwise_cons.mp pw
  have eM : mfgF v a.2 = pk (pk v 6 a.2 0) 10 r (if v 5 a.2 ≤ v 10 r then v 10 r else v 5 a.2) := by
    show pk (pk v 6 a.2 (b1 0)) 10 (ix (v 1 a.2)) (if v 5 a.2 ≤ v 10 (ix (v 1 a.2)) then v 10 (ix (v 1 a.2)) else v 5 a.2) = _
    rw [hix, b1_0]
  have hvo : ∀ k, k ≠ 6 → k ≠ 10 → mfgF v a.2 k = v k := fun k h6 h10 => by rw [eM, pk_ne h10, pk_ne h6]
  have v10 : mfgF v a.2 10 = upd (v 10) r (if v 5 a.2 ≤ v 10 r then v 10 r else v 5 a.2) := by rw [eM, pk_at, pk_ne (by omega)]
  have v6 : ∀ c, mfgF v a.2 6 c = if c = a.2 then 0 else v 6 c := fun c => by rw [eM, pk_ne (by omega), pk_i]
  have v1 := hvo 1 (by omega) (by omega)
  have v2 := hvo 2 (by omega) (by omega)
  have v3 := hvo 3 (by omega) (by omega)
  have v4 := hvo 4 (by omega) (by omega)
  have v5 := hvo 5 (by omega) (by omega)
  have v9 := hvo 9 (by omega) (by omega)
  have hlv : ∀ (ρ : Int32) (c : Nat), lastv (mfgF v a.2) ρ c = lastv v ρ c := fun ρ c => lastv_congr ρ c (fun n _ => by rw [v1, v2, v5]; exact ⟨rfl, rfl, Iff.rfl⟩)
  have hup : ∀ g, v 10 g ≤ mfgF v a.2 10 g := fun g => by
    rw [v10]
    unfold upd
    by_cases q : g = r
    · rw [if_pos q, q]
      split
      · exact i_rf _
      · rename_i z
        exact i_nle z
    · rw [if_neg q]; exact i_rf _
  have hga : v 5 a.2 ≤ mfgF v a.2 10 r := by
    rw [v10, pk_us]
    split
    · rename_i z
      exact z
    · exact i_rf _
  refine ⟨⟨hS', hR', pw', fun b hb => hPN b (hsub b hb), ?_, ?_, ?_, ?_, ?_, ?_, ?_, ?_, ?_, ?_, ?_⟩, ⟨?_, ?_, ?_⟩, ⟨?_, ?_⟩, ho, hvo⟩
  · intro b hb
    rw [v1, v3, v4, v5, ho 3 (by omega), ho 4 (by omega), ho 5 (by omega), ho 15 (by omega), ho 16 (by omega)]
    exact hel b (hsub b hb)
  · rw [ho 16 (by omega)]; exact hinj
  · rw [ho 16 (by omega), ho 15 (by omega)]; exact hop
  · rw [v4]; exact hwho
  · rw [v1]; exact hrow
  · rw [v5]
    intro c hc z
    obtain ⟨b, hb, e⟩ := hopen c hc z
    rcases List.mem_cons.mp hb with q | q
    · rw [q] at e
      rw [← e] at z
      exact absurd z hn0
    · exact ⟨b, q, e⟩
  · rw [v1, v5]
    intro c hc h5 hb
    by_cases q : c = a.2
    · refine ⟨fun b hb' => by rw [q]; exact pa b hb', ?_⟩
      rw [q, hix]
      exact hga
    · obtain ⟨z1, z2⟩ := hold c hc h5 (fun b hb' e => by
        rcases List.mem_cons.mp hb' with z | z
        · rw [z] at e; exact q e.symm
        · exact hb b z e)
      exact ⟨fun b hb' => z1 b (hsub b hb'), i_tr z2 (hup _)⟩
  · rw [v1, v3, v5]
    intro c hc h5
    rw [hlv]
    exact hbef c hc h5
  · intro r' hr'
    rw [ho 0 (by omega), hlv, f2, v10]
    refine ⟨(hrows r' hr').1, ?_⟩
    unfold upd
    by_cases q : r' = r
    · rw [if_pos q, if_pos q, e15, (hrows r hr).2]
    · rw [if_neg q, if_neg q]
      exact (hrows r' hr').2
  · rw [v1, v5]
    exact fun b hb c hc => hsuf b (hsub b hb) c (hsub c hc)
  · rw [v1, v4, v5, v9]
    exact fun b hb => hlk b (hsub b hb)
  · rw [hvo 0 (by omega) (by omega)]; exact hM.1
  · intro c hc
    rw [v6]
    by_cases q : c = a.2
    · rw [if_pos q, q]
      refine Or.inr ⟨rfl, fun b hb e => ?_⟩
      have := pa b hb
      omega
    · rw [if_neg q]
      rcases hM.2.1 c hc with ⟨z1, b, hb, z2⟩ | ⟨z1, z2⟩
      · rcases List.mem_cons.mp hb with z | z
        · rw [z] at z2; exact absurd z2.symm q
        · exact Or.inl ⟨z1, b, z, z2⟩
      · exact Or.inr ⟨z1, fun b hb => z2 b (hsub b hb)⟩
  · rw [hvo 8 (by omega) (by omega)]
    intro r' hr'
    rw [hlv]
    exact hM.2.2 r' hr'
  · rw [ho 16 (by omega), ho 5 (by omega)]
    intro x hx hx0
    obtain ⟨b, hb, e⟩ := hE.1 x hx hx0
    rcases List.mem_cons.mp hb with z | z
    · rw [z] at e
      have := hop x hx hx0
      rw [← e, e15] at this
      exact absurd this hn0
    · exact ⟨b, z, e⟩
  · rw [v1, v4, v5, v9]
    intro r' hr'
    rcases hE.2 r' hr' with z | ⟨b, hb, z1, z2, z3⟩
    · exact Or.inl z
    · rcases List.mem_cons.mp hb with z | z
      · rw [z] at z2; exact absurd z2 hn0
      · exact Or.inr ⟨b, z, z1, z2, z3⟩
end
section
/-! ===== the invariant under the opening of a transaction and under a new change ===== -/
theorem free_place {u : Mem} {ls : List Nat} (h : SL0 u ls) (hl : ls.length < 24) : ∃ i, i < 32 ∧ bt (u 13 0) i = false := by
  obtain ⟨W, nd, hlt, hu, hc, hdl, h14, h13⟩ := h
  apply Classical.byContradiction
  intro q
  have h1 := all_le 32 (ls.map (fun s => ix (u 5 s)) ++ [ix (u 16 0), ix (u 16 1), ix (u 16 2), ix (u 16 3)]) (fun i hi => by
    have hb : bt (u 13 0) i = true := by
      have : ¬ bt (u 13 0) i = false := fun z => q ⟨i, hi, z⟩
      simpa using this
    rcases (h13 i hi).mp hb with ⟨s, hs, e⟩ | ⟨x, hx, e⟩
    · refine List.mem_append_left _ (List.mem_map.mpr ⟨s, hs, ?_⟩)
      rw [e]
      exact ix_nI (by omega)
    · refine List.mem_append_right _ ?_
      have e2 : i = ix (u 16 x) := by rw [e]; exact (ix_nI (by omega)).symm
      rcases (show x = 0 ∨ x = 1 ∨ x = 2 ∨ x = 3 by omega) with rfl | rfl | rfl | rfl <;> simp [e2])
  rw [List.length_append, List.length_map] at h1
  simp at h1
  omega
theorem LX_chg2 {u v : Mem} {N : Nat} {P : List (Nat × Nat)} {x : Nat} (h : LX u v N P) (hl : P.length < 24) (hx : x < 4) (hE : ∀ y, y < 4 → ¬ u 16 y < 0 → ∃ a ∈ P, u 5 a.1 = u 16 y) :
    LX (chg2F u x) v N P ∧ ¬ chg2F u x 16 x < 0 ∧ (∀ y, y < 4 → ¬ y = x → ¬ chg2F u x 16 y < 0 → ∃ a ∈ P, chg2F u x 5 a.1 = chg2F u x 16 y) ∧ chg2F u x 17 = u 17 := by
  unfold chg2F
  by_cases q : 0 ≤ u 16 x
  · rw [if_pos q]
    exact ⟨h, i_nlt.mpr q, fun y hy _ => hE y hy, rfl⟩
  rw [if_neg q]
  obtain ⟨hS, hR, pw, hPN, hel, hinj, hop, hwho, hrow, hopen, hold, hbef, hrows, hsuf, hlk⟩ := h
  have W := hS.1
  have h16 : u 16 x = -1 := by
    rcases W 16 x with z | ⟨j, hj, z⟩
    · exact z
    · rw [z] at q
      exact absurd (nI_pos' (by omega)) q
  obtain ⟨p, hp, n5, n16, hS', hR', o15, o16, oo⟩ := X_open hS hR hx h16 (free_place hS (by rw [List.length_map]; exact hl))
  have p16 : ∀ y, ¬ y = x → openF u x 16 y = u 16 y := fun y hy => by rw [o16]; exact pk_un hy
  have p16x : openF u x 16 x = nI p := by rw [o16]; exact pk_us
  have hix5 : ∀ a ∈ P, openF u x 15 (ix (u 5 a.1)) = u 15 (ix (u 5 a.1)) := fun a ha => by
    rw [o15]
    refine pk_un (fun z => ?_)
    obtain ⟨p2, hp2, ep2⟩ : okP 32 (u 5 a.1) := W 5 a.1
    rw [ep2, ix_nI (by omega)] at z
    exact n5 a.1 (List.mem_map.mpr ⟨a, ha, rfl⟩) (by rw [ep2, z])
  have hneg : ¬ ¬ u 16 x < 0 := fun z => z (by rw [h16]; decide)
  refine ⟨⟨hS', hR', pw, hPN, ?_, ?_, ?_, hwho, hrow, hopen, hold, hbef, ?_, hsuf, hlk⟩, ?_, ?_, oo 17 (by omega)⟩
  · intro a ha
    obtain ⟨e3, e4, e15, e5, e16⟩ := hel a ha
    rw [oo 3 (by omega), oo 4 (by omega), oo 5 (by omega), hix5 a ha]
    refine ⟨e3, e4, e15, e5, fun z => ?_⟩
    have := e16 z
    rw [p16]
    · exact this
    · intro e
      rw [e, h16] at this
      obtain ⟨p2, hp2, ep2⟩ : okP 32 (u 5 a.1) := W 5 a.1
      rw [ep2] at this
      exact nIne (by omega) this.symm
  · intro y hy z hz hy0 e
    by_cases q1 : y = x <;> by_cases q2 : z = x
    · rw [q1, q2]
    · rw [q1, p16x, p16 z q2] at e
      exact absurd e.symm (n16 z hz)
    · rw [q2, p16x, p16 y q1] at e
      exact absurd e (n16 y hy)
    · rw [p16 y q1] at hy0 e
      rw [p16 z q2] at e
      exact hinj y hy z hz hy0 e
  · intro y hy hy0
    by_cases q1 : y = x
    · rw [q1, p16x, ix_nI (by omega), o15]
      exact pk_us
    · rw [p16 y q1] at hy0 ⊢
      rw [o15]
      obtain ⟨e1, e2⟩ := okN.ix (W 16 y) (by decide) hy0
      rw [show upd (u 15) p 0 (ix (u 16 y)) = u 15 (ix (u 16 y)) from pk_un (fun z => n16 y hy (by rw [e1]; exact congrArg nI z))]
      exact hop y hy hy0
  · intro r hr
    rw [oo 0 (by omega), oo 2 (by omega)]
    exact hrows r hr
  · rw [p16x]; exact nI_pos (by omega)
  · intro y hy hyx hy0
    rw [p16 y hyx] at hy0 ⊢
    rw [oo 5 (by omega)]
    exact hE y hy hy0
theorem LX_note {u v : Mem} {N : Nat} {P : List (Nat × Nat)} {x r p : Nat} {w : Int32} (h : LX u v N P) (hM : LM v N P) (hl : P.length < 24) (hx : x < 4) (hr : r < 8) (hp : p < 32) (h16 : u 16 x = nI p)
    (hE1 : ∀ y, y < 4 → ¬ y = x → ¬ u 16 y < 0 → ∃ a ∈ P, u 5 a.1 = u 16 y) (hE2 : ∀ r, r < 8 → v 9 r = -4 ∨ ∃ a ∈ P, v 1 a.2 = nI r ∧ v 5 a.2 = 0 ∧ v 4 a.2 = v 9 r) (hlock : v 9 r = -4 ∨ v 9 r = nI x) :
    ∃ P', LX (pk (noteF u r p) 0 r w) (mchg2F v N (nI x) r w) (N + 1) P' ∧ LM (mchg2F v N (nI x) r w) (N + 1) P' ∧ EX (pk (noteF u r p) 0 r w) (mchg2F v N (nI x) r w) P' ∧ pk (noteF u r p) 0 r w 17 = u 17 ∧ mchg2F v N (nI x) r w 7 = v 7 := by
  obtain ⟨hS, hR, pw, hPN, hel, hinj, hop, hwho, hrow, hopen, hold, hbef, hrows, hsuf, hlk⟩ := h
  have W := hS.1
  obtain ⟨c, hc24, hcl, hS', hR', n0, n2, n3, n4, n5, n15, n16, n17⟩ := X_note hS hR (by rw [List.length_map]; exact hl) hr hp ⟨x, hx, h16⟩
  obtain ⟨u', eu⟩ : ∃ u', u' = pk (noteF u r p) 0 r w := ⟨_, rfl⟩
  obtain ⟨v', ev⟩ : ∃ v', v' = mchg2F v N (nI x) r w := ⟨_, rfl⟩
  rw [← eu, ← ev]
  have ev2 : v' = pk (pk (pk (pk (pk (pk (pk (pk (pk v 1 N (nI r)) 2 N w) 3 N (v 8 r)) 4 N (nI x)) 5 N 0) 6 N 1) 0 0 (v 0 0 + 1)) 8 r w) 9 r (nI x) := by
    rw [ev, ← b1_1]
    rfl
  have m1 : v' 1 = upd (v 1) N (nI r) := by rw [ev2]; rfl
  have m2 : v' 2 = upd (v 2) N w := by rw [ev2]; rfl
  have m3 : v' 3 = upd (v 3) N (v 8 r) := by rw [ev2]; rfl
  have m4 : v' 4 = upd (v 4) N (nI x) := by rw [ev2]; rfl
  have m5 : v' 5 = upd (v 5) N 0 := by rw [ev2]; rfl
  have m6 : v' 6 = upd (v 6) N 1 := by rw [ev2]; rfl
  have m7 : v' 7 = v 7 := by rw [ev2]; rfl
  have m8 : v' 8 = upd (v 8) r w := by rw [ev2]; rfl
  have m9 : v' 9 = upd (v 9) r (nI x) := by rw [ev2]; rfl
  have m10 : v' 10 = v 10 := by rw [ev2]; rfl
  have m0 : v' 0 0 = v 0 0 + 1 := by rw [ev2]; rfl
  have uo : ∀ k, k ≠ 0 → u' k = noteF u r p k := fun k hk => by rw [eu, pk_ne hk]
  have u0 : u' 0 = upd (u 0) r w := by rw [eu, pk_at, n0]
  have k1 : ∀ c, c ≠ N → v' 1 c = v 1 c := fun c hc => by rw [m1]; exact pk_un hc
  have k2 : ∀ c, c ≠ N → v' 2 c = v 2 c := fun c hc => by rw [m2]; exact pk_un hc
  have k3 : ∀ c, c ≠ N → v' 3 c = v 3 c := fun c hc => by rw [m3]; exact pk_un hc
  have k4 : ∀ c, c ≠ N → v' 4 c = v 4 c := fun c hc => by rw [m4]; exact pk_un hc
  have k5 : ∀ c, c ≠ N → v' 5 c = v 5 c := fun c hc => by rw [m5]; exact pk_un hc
  have j1 : v' 1 N = nI r := by rw [m1]; exact pk_us
  have j2 : v' 2 N = w := by rw [m2]; exact pk_us
  have j3 : v' 3 N = v 8 r := by rw [m3]; exact pk_us
  have j4 : v' 4 N = nI x := by rw [m4]; exact pk_us
  have j5 : v' 5 N = 0 := by rw [m5]; exact pk_us
  have hNP : ∀ a ∈ P, a.2 ≠ N := fun a ha => by have := hPN a ha; omega
  have hcP : ∀ a ∈ P, a.1 ≠ c := fun a ha e => hcl (by rw [← e]; exact List.mem_map.mpr ⟨a, ha, rfl⟩)
  have hlv : ∀ (ρ : Int32) (M : Nat), M ≤ N → lastv v' ρ M = lastv v ρ M := fun ρ M hM => lastv_congr ρ M (fun n hn => by
    rw [k1 n (by omega), k2 n (by omega), k5 n (by omega)]
    exact ⟨rfl, rfl, Iff.rfl⟩)
  have o3 : ∀ a ∈ P, u' 3 a.1 = u 3 a.1 := fun a ha => by rw [uo 3 (by omega), n3]; exact pk_un (hcP a ha)
  have o4 : ∀ a ∈ P, u' 4 a.1 = u 4 a.1 := fun a ha => by rw [uo 4 (by omega), n4]; exact pk_un (hcP a ha)
  have o5 : ∀ a ∈ P, u' 5 a.1 = u 5 a.1 := fun a ha => by rw [uo 5 (by omega), n5]; exact pk_un (hcP a ha)
  have o15 : u' 15 = u 15 := by rw [uo 15 (by omega), n15]
  have o16 : u' 16 = u 16 := by rw [uo 16 (by omega), n16]
  have o17 : u' 17 = u 17 := by rw [uo 17 (by omega), n17]
  have c3 : u' 3 c = nI r := by rw [uo 3 (by omega), n3]; exact pk_us
  have c4 : u' 4 c = u 0 r := by rw [uo 4 (by omega), n4]; exact pk_us
  have c5 : u' 5 c = nI p := by rw [uo 5 (by omega), n5]; exact pk_us
  have hpos : ¬ u 16 x < 0 := by rw [h16]; exact nI_pos (by omega)
  have hmem : ∀ a, a ∈ P ++ [(c, N)] → a ∈ P ∨ a = (c, N) := fun a ha => by
    rcases List.mem_append.mp ha with z | z
    · exact Or.inl z
    · exact Or.inr (List.mem_singleton.mp z)
  have hmap : (P ++ [(c, N)]).map Prod.fst = P.map Prod.fst ++ [c] := by simp
  have hin : (c, N) ∈ P ++ [(c, N)] := List.mem_append_right _ (by simp)
  have W' : WF u' := by rw [eu]; exact WF_pk hS'.1 trivial
  refine ⟨P ++ [(c, N)], ⟨?_, ?_, ?_, ?_, ?_, ?_, ?_, ?_, ?_, ?_, ?_, ?_, ?_, ?_, ?_⟩, ⟨?_, ?_, ?_⟩, ⟨?_, ?_⟩, o17, m7⟩
  · rw [hmap]
    exact SL0_cong hS' W' (fun k hk => uo k (by omega))
  · rw [hmap]
    intro r' hr'
    rw [rowL_cong (uo 3 (by omega)), uo 6 (by omega), uo 1 (by omega)]
    exact hR' r' hr'
  · refine List.pairwise_append.mpr ⟨pw, by simp, fun a ha b hb => ?_⟩
    rw [List.mem_singleton.mp hb]
    exact hPN a ha
  · intro a ha
    rcases hmem a ha with z | z
    · have := hPN a z
      omega
    · rw [z]; exact Nat.lt_succ_self N
  · intro a ha
    rcases hmem a ha with z | z
    · rw [o3 a z, o4 a z, o5 a z, o15, o16, k1 _ (hNP a z), k3 _ (hNP a z), k4 _ (hNP a z), k5 _ (hNP a z)]
      exact hel a z
    · subst z
      show u' 3 c = v' 1 N ∧ u' 4 c = v' 3 N ∧ u' 15 (ix (u' 5 c)) = v' 5 N ∧ ¬ v' 5 N < 0 ∧ (v' 5 N = 0 → u' 16 (ix (v' 4 N)) = u' 5 c)
      rw [c3, c4, c5, j1, j3, j4, j5, o15, o16, ix_nI (by omega), ix_nI (by omega)]
      refine ⟨rfl, by rw [(hrows r hr).1, hM.2.2 r hr], ?_, by decide, fun _ => h16⟩
      have := hop x hx hpos
      rw [h16, ix_nI (by omega)] at this
      exact this
  · rw [o16]; exact hinj
  · rw [o16, o15]; exact hop
  · intro d hd
    by_cases e : d = N
    · rw [e, j4]; exact ⟨x, hx, rfl⟩
    · rw [k4 d e]; exact hwho d (by omega)
  · intro d
    by_cases e : d = N
    · rw [e, j1]; exact ⟨r, hr, rfl⟩
    · rw [k1 d e]; exact hrow d
  · intro d hd h5
    by_cases e : d = N
    · exact ⟨(c, N), hin, e.symm⟩
    · rw [k5 d e] at h5
      obtain ⟨a, ha, z⟩ := hopen d (by omega) h5
      exact ⟨a, List.mem_append_left _ ha, z⟩
  · intro d hd h5 hno
    have e : d ≠ N := fun z => hno (c, N) hin z.symm
    rw [k5 d e] at h5 ⊢
    rw [k1 d e, m10]
    obtain ⟨z1, z2⟩ := hold d (by omega) h5 (fun a ha => hno a (List.mem_append_left _ ha))
    refine ⟨fun a ha => ?_, z2⟩
    rcases hmem a ha with z | z
    · exact z1 a z
    · rw [z]
      show d < N
      omega
  · intro d hd h5
    rw [hlv _ _ (by omega)]
    by_cases e : d = N
    · rw [e, j1, j3, hM.2.2 r hr]
    · rw [k5 d e] at h5
      rw [k1 d e, k3 d e]
      exact hbef d (by omega) h5
  · intro r' hr'
    rw [lastv_s, j1, j2, j5, u0, m10, uo 2 (by omega), n2, hlv _ _ (Nat.le_refl _)]
    refine ⟨?_, (hrows r' hr').2⟩
    unfold upd
    by_cases q : r' = r
    · rw [if_pos q, if_pos ⟨by rw [q], by decide⟩]
    · rw [if_neg q, if_neg (fun z => q ((nI_eq (by omega) (by omega)).mp z.1).symm)]
      exact (hrows r' hr').1
  · intro a ha b hb hlt
    rcases hmem b hb with zb | zb
    · rcases hmem a ha with za | za
      · rw [k1 _ (hNP a za), k1 _ (hNP b zb), k5 _ (hNP a za), k5 _ (hNP b zb)]
        exact hsuf a za b zb hlt
      · have := hPN b zb
        rw [za] at hlt
        have hlt : N < b.2 := hlt
        omega
    · rw [zb]
      exact fun _ _ => j5
  · intro a ha h5
    rcases hmem a ha with z | z
    · rw [k5 _ (hNP a z)] at h5
      rw [k1 _ (hNP a z), k4 _ (hNP a z), m9]
      have old := hlk a z h5
      unfold upd
      by_cases q : ix (v 1 a.2) = r
      · rw [if_pos q]
        rw [q] at old
        obtain ⟨y, hy, ey⟩ := hwho a.2 (hPN a z)
        rcases hlock with e | e
        · rw [e, ey] at old
          exact absurd old.symm (neg4 hy)
        · rw [← e]; exact old
      · rw [if_neg q]; exact old
    · rw [z]
      show v' 9 (ix (v' 1 N)) = v' 4 N
      rw [j1, j4, ix_nI (by omega), m9]
      exact pk_us
  · rw [m0, hM.1, nI_1]
  · intro d hd
    rw [m6]
    unfold upd
    by_cases e : d = N
    · rw [if_pos e]
      exact Or.inl ⟨rfl, (c, N), hin, e.symm⟩
    · rw [if_neg e]
      rcases hM.2.1 d (by omega) with ⟨z1, a, ha, z2⟩ | ⟨z1, z2⟩
      · exact Or.inl ⟨z1, a, List.mem_append_left _ ha, z2⟩
      · refine Or.inr ⟨z1, fun a ha => ?_⟩
        rcases hmem a ha with z | z
        · exact z2 a z
        · rw [z]
          exact fun q => e q.symm
  · intro r' hr'
    rw [lastv_s, j1, j2, j5, m8, hlv _ _ (Nat.le_refl _)]
    unfold upd
    by_cases q : r' = r
    · rw [if_pos q, if_pos ⟨by rw [q], by decide⟩]
    · rw [if_neg q, if_neg (fun z => q ((nI_eq (by omega) (by omega)).mp z.1).symm)]
      exact hM.2.2 r' hr'
  · rw [o16]
    intro y hy hy0
    by_cases q : y = x
    · exact ⟨(c, N), hin, by rw [q, h16]; exact c5⟩
    · obtain ⟨a, ha, z⟩ := hE1 y hy q hy0
      exact ⟨a, List.mem_append_left _ ha, by rw [o5 a ha]; exact z⟩
  · intro r' hr'
    rw [m9]
    unfold upd
    by_cases q : r' = r
    · rw [if_pos q]
      exact Or.inr ⟨(c, N), hin, by rw [q]; exact j1, j5, j4⟩
    · rw [if_neg q]
      rcases hE2 r' hr' with z | ⟨a, ha, z1, z2, z3⟩
      · exact Or.inl z
      · exact Or.inr ⟨a, List.mem_append_left _ ha, by rw [k1 _ (hNP a ha)]; exact z1, by rw [k5 _ (hNP a ha)]; exact z2, by rw [k4 _ (hNP a ha)]; exact z3⟩
end
section
/-! ===== change, in both ===== -/
theorem oldF_at (v : Mem) {d : Nat} (hd : ¬ v 6 d = 0) : ∀ n c : Nat, c ≤ d → d < c + n → (∀ e, c ≤ e → e < d → v 6 e = 0) → oldF v n c = nI d
  | 0, c, h1, h2, _ => by omega
  | n + 1, c, h1, h2, h3 => by
    unfold oldF
    by_cases e : c = d
    · rw [e, if_neg hd]
    · rw [if_pos (h3 c (Nat.le_refl _) (by omega))]
      exact oldF_at v hd n (c + 1) (by omega) (by omega) (fun e h4 h5 => h3 e (by omega) h5)
theorem old_rel {u v : Mem} {N : Nat} {a : Nat × Nat} {P : List (Nat × Nat)} (h : LX u v N (a :: P)) (hM : LM v N (a :: P)) : oldF v N 0 = nI a.2 := by
  obtain ⟨hS, hR, pw, hPN, -⟩ := h
  have ha := hPN a List.mem_cons_self
  have pa := (List.pairwise_cons.mp pw).1
  refine oldF_at v ?_ N 0 (Nat.zero_le _) (by omega) (fun e _ he => ?_)
  · rcases hM.2.1 a.2 ha with ⟨z, -⟩ | ⟨-, z⟩
    · rw [z]; decide
    · exact absurd rfl (z a List.mem_cons_self)
  · rcases hM.2.1 e (by omega) with ⟨-, b, hb, z⟩ | ⟨z, -⟩
    · rcases List.mem_cons.mp hb with q | q
      · rw [q] at z; omega
      · have := pa b q
        omega
    · exact z
theorem INV_mono {k : Nat} {u v : Mem} (h : INV k u v) : INV (k + 1) u v := by
  obtain ⟨N, t, P, hX, hM, hE, h17, h7, ht, hN⟩ := h
  exact ⟨N, t, P, hX, hM, hE, h17, h7, by omega, by omega⟩
theorem INV_chg {k N t j ρ : Nat} {u v : Mem} {P : List (Nat × Nat)} {w : Int32} (hX : LX u v N P) (hM : LM v N P) (hE : EX u v P) (h17 : u 17 0 = nI t) (h7 : v 7 0 = nI t) (ht : t ≤ k) (hN : N ≤ k) (hl : P.length < 24) (hj : j < 4) (hρ : ρ < 8) (hlock : v 9 ρ = -4 ∨ v 9 ρ = nI j) :
    INV (k + 1) (chg3F (chg2F u j) j ρ w) (mchg2F v N (nI j) ρ w) := by
  obtain ⟨hX2, hpos, hE2, e17⟩ := LX_chg2 hX hl hj hE.1
  obtain ⟨e1, e2⟩ := okN.ix (hX2.1.1 16 j) (by decide) hpos
  obtain ⟨P', hX3, hM3, hE3, z17, z7⟩ := LX_note (w := w) hX2 hM hl hj hρ e2 e1 hE2 hE.2 hlock
  exact ⟨N + 1, t, P', hX3, hM3, hE3, by
    show pk (noteF (chg2F u j) ρ (ix (chg2F u j 16 j))) 0 ρ w 17 0 = _
    rw [z17, e17, h17], by rw [z7, h7], by omega, by omega⟩
theorem INV_change {k N : Nat} {u v : Mem} (x r w : Int32) (h : INV k u v) (hk : k < 64) (hN : v 0 0 = nI N) (hNk : N ≤ k) : (changeF u x r w).1 = (mchangeF v N x r w).1 ∧ INV (k + 1) (changeF u x r w).2 (mchangeF v N x r w).2 := by
  have hmono := INV_mono h
  obtain ⟨N1, t, P, hX, hM, hE, h17, h7, ht, hN1⟩ := h
  have eN : N1 = N := (nI_eq (by omega) (by omega)).mp (hM.1.symm.trans hN)
  subst eN
  unfold changeF mchangeF
  by_cases hs : sessF x = 0
  · rw [if_pos hs, if_pos hs]
    exact ⟨rfl, hmono⟩
  rw [if_neg hs, if_neg hs]
  by_cases hr : rowF r = 0
  · rw [if_pos hr, if_pos hr]
    exact ⟨rfl, hmono⟩
  rw [if_neg hr, if_neg hr]
  obtain ⟨j, hj, rfl⟩ := sess_of hs
  obtain ⟨ρ, hρ, rfl⟩ := row_of hr
  rw [ix_nI (by omega), ix_nI (by omega)]
  have hlk : (¬ lockF u ρ < 0 ∧ ¬ lockF u ρ = u 16 j ↔ ¬ v 9 ρ = -4 ∧ ¬ v 9 ρ = nI j) := by
    rcases lock_rel hX hE hρ with ⟨z1, z2⟩ | ⟨y, hy, z1, z2, z3⟩
    · rw [z1, z2]
      exact ⟨fun q => absurd (by decide) q.1, fun q => absurd rfl q.1⟩
    · rw [z1, z2]
      refine ⟨fun q => ⟨neg4 hy, fun e => q.2 ?_⟩, fun q => ⟨z3, fun e => q.2 ?_⟩⟩
      · rw [(nI_eq (by omega) (by omega)).mp e]
      · rw [hX.2.2.2.2.2.1 y hy j hj z3 e]
  by_cases ql : ¬ v 9 ρ = -4 ∧ ¬ v 9 ρ = nI j
  · rw [if_pos ql, if_pos (hlk.mpr ql)]
    exact ⟨rfl, hmono⟩
  rw [if_neg ql, if_neg (fun z => ql (hlk.mp z))]
  have hlock : v 9 ρ = -4 ∨ v 9 ρ = nI j := by
    by_cases e : v 9 ρ = -4
    · exact Or.inl e
    · refine Or.inr (Classical.byContradiction fun z => ql ⟨e, z⟩)
  have hlen : P.length ≤ 24 := by
    have := nodup_le 24 _ hX.1.2.1 hX.1.2.2.1
    rwa [List.length_map] at this
  obtain ⟨erem, ecnt⟩ := rem_rel hX hM
  have h512 : ¬ nI 512 ≤ v 0 0 := by
    rw [hN]
    exact nI_ge (by omega) (by omega)
  by_cases q24 : P.length = 24
  · cases P with
    | nil => simp at q24
    | cons a P' =>
      have e10 : u 10 0 = nI a.1 := hX.1.2.2.2.2.2.1.1
      have ha24 : a.1 < 24 := hX.1.2.2.1 a.1 (by simp)
      have haN := hX.2.2.2.1 a List.mem_cons_self
      have hmo : mOld v N1 = nI a.2 := by
        unfold mOld
        rw [erem, q24, if_pos (i_rf _)]
        exact old_rel hX hM
      have e12 : u 12 0 = nI 24 := by rw [ecnt, q24]
      obtain ⟨e3, e4, e15, e5, e16⟩ := hX.2.2.2.2.1 a List.mem_cons_self
      have hopn : isOpenF u (ix (u 5 (ix (u 10 0)))) = if v 5 a.2 = 0 then 1 else 0 := by
        unfold isOpenF
        rw [e10, ix_nI (by omega), e15]
      rw [hmo, ix_nI (by omega), hopn]
      have hpos : ¬ nI a.2 < 0 := nI_pos (by omega)
      by_cases q0 : v 5 a.2 = 0
      · have t1 : u 12 0 = nI 24 ∧ ¬ (if v 5 a.2 = 0 then (1 : Int32) else 0) = 0 := ⟨e12, by rw [if_pos q0]; decide⟩
        have t2 : nI 512 ≤ v 0 0 ∨ (¬ nI a.2 < 0 ∧ v 5 a.2 = 0) := Or.inr ⟨hpos, q0⟩
        rw [if_pos t1, if_pos t2]
        exact ⟨rfl, hmono⟩
      · have t1 : ¬ (u 12 0 = nI 24 ∧ ¬ (if v 5 a.2 = 0 then (1 : Int32) else 0) = 0) := fun z => z.2 (by rw [if_neg q0])
        have t2 : ¬ (nI 512 ≤ v 0 0 ∨ (¬ nI a.2 < 0 ∧ v 5 a.2 = 0)) := fun z => z.elim h512 (fun y => q0 y.2)
        rw [if_neg t1, if_neg t2]
        refine ⟨rfl, ?_⟩
        obtain ⟨hX2, hM2, hE2, ho, hvo⟩ := LX_forget hX hM hE q0
        have c1 : chg1F u = forgetF u := if_pos e12
        have c2 : mchg1F v (nI a.2) = mfgF v a.2 := by
          unfold mchg1F
          rw [if_neg hpos, ix_nI (by omega)]
        show INV (k + 1) (chg3F (chg2F (chg1F u) j) j ρ w) (mchg2F (mchg1F v (nI a.2)) N1 (nI j) ρ w)
        rw [c1, c2]
        refine INV_chg hX2 hM2 hE2 (by rw [ho 17 (by omega)]; exact h17) (by rw [hvo 7 (by omega) (by omega)]; exact h7) ht hN1 ?_ hj hρ (by rw [hvo 9 (by omega) (by omega)]; exact hlock)
        simp at q24
        omega
  · have e12 : ¬ u 12 0 = nI 24 := by
      rw [ecnt, nI_eq (by omega) (by omega)]
      exact q24
    have hmo : mOld v N1 = -1 := by
      unfold mOld
      rw [erem, if_neg (nI_ge (by omega) (by omega))]
    have t1 : ¬ (u 12 0 = nI 24 ∧ ¬ isOpenF u (ix (u 5 (ix (u 10 0)))) = 0) := fun z => e12 z.1
    have t2 : ¬ (nI 512 ≤ v 0 0 ∨ (¬ (-1 : Int32) < 0 ∧ v 5 (ix (-1)) = 0)) := fun z => z.elim h512 (fun y => y.1 (by decide))
    rw [hmo, if_neg t1, if_neg t2]
    refine ⟨rfl, ?_⟩
    have c1 : chg1F u = u := if_neg e12
    have c2 : mchg1F v (-1) = v := if_pos (by decide)
    show INV (k + 1) (chg3F (chg2F (chg1F u) j) j ρ w) (mchg2F (mchg1F v (-1)) N1 (nI j) ρ w)
    rw [c1, c2]
    exact INV_chg hX hM hE h17 h7 ht hN1 (by omega) hj hρ hlock
end
section
/-! ===== commit, in both ===== -/
theorem relF_o (x : Int32) {k : Nat} (hk : k ≠ 9) : ∀ (n r : Nat) (v : Mem), relF x n r v k = v k
  | 0, _, _ => rfl
  | n + 1, r, v => by
    unfold relF
    rw [relF_o x hk n (r + 1), pk_ne hk]
theorem relF_9 (x : Int32) (g : Nat) : ∀ (n r : Nat) (v : Mem), relF x n r v 9 g = if r ≤ g ∧ g < r + n ∧ v 9 g = x then -4 else v 9 g
  | 0, r, v => by
    rw [if_neg (fun z => by omega)]
    rfl
  | n + 1, r, v => by
    unfold relF
    rw [relF_9 x g n (r + 1), pk_i]
    by_cases e : g = r
    · subst e
      rw [if_pos rfl, if_neg (fun z => by omega)]
      by_cases q : v 9 g = x
      · rw [if_pos q, if_pos ⟨Nat.le_refl _, by omega, q⟩]
      · rw [if_neg q, if_neg (fun z => q z.2.2)]
    · rw [if_neg e]
      by_cases q : r + 1 ≤ g ∧ g < r + 1 + n ∧ v 9 g = x
      · rw [if_pos q, if_pos ⟨by omega, by omega, q.2.2⟩]
      · rw [if_neg q, if_neg (fun z => q ⟨by omega, by omega, z.2.2⟩)]
theorem rel_9 (x : Int32) (v : Mem) {g : Nat} (hg : g < 8) : relF x 8 0 v 9 g = if v 9 g = x then -4 else v 9 g := by
  rw [relF_9]
  by_cases q : v 9 g = x
  · rw [if_pos q, if_pos ⟨Nat.zero_le _, by omega, q⟩]
  · rw [if_neg q, if_neg (fun z => q z.2.2)]
theorem cmtF_o (x : Int32) {k : Nat} (hk : k ≠ 5) : ∀ (n r : Nat) (v : Mem), cmtF x n r v k = v k
  | 0, _, _ => rfl
  | n + 1, r, v => by
    unfold cmtF
    rw [cmtF_o x hk n (r + 1), pk_ne hk]
theorem cmtF_5 (x : Int32) (g : Nat) : ∀ (n r : Nat) (v : Mem), cmtF x n r v 5 g = if r ≤ g ∧ g < r + n ∧ v 4 g = x ∧ v 5 g = 0 then v 7 0 else v 5 g
  | 0, r, v => by
    rw [if_neg (fun z => by omega)]
    rfl
  | n + 1, r, v => by
    unfold cmtF
    rw [cmtF_5 x g n (r + 1), pk_i, pk_ne (by omega), pk_ne (by omega)]
    by_cases e : g = r
    · subst e
      rw [if_pos rfl, if_neg (fun z => by omega)]
      by_cases q : v 4 g = x
      · rw [if_pos q]
        by_cases q2 : v 5 g = 0
        · rw [if_pos q2, if_pos ⟨Nat.le_refl _, by omega, q, q2⟩]
        · rw [if_neg q2, if_neg (fun z => q2 z.2.2.2)]
      · rw [if_neg q, if_neg (fun z => q z.2.2.1)]
    · rw [if_neg e]
      by_cases q : r + 1 ≤ g ∧ g < r + 1 + n ∧ v 4 g = x ∧ v 5 g = 0
      · rw [if_pos q, if_pos ⟨by omega, by omega, q.2.2⟩]
      · rw [if_neg q, if_neg (fun z => q ⟨by omega, by omega, z.2.2⟩)]
/-- a remembered change is of session j's open transaction just if it has its place -/
theorem mine_iff {u v : Mem} {N : Nat} {P : List (Nat × Nat)} (h : LX u v N P) {j : Nat} (hj : j < 4) (hpos : ¬ u 16 j < 0) {a : Nat × Nat} (ha : a ∈ P) : u 5 a.1 = u 16 j ↔ v 4 a.2 = nI j ∧ v 5 a.2 = 0 := by
  obtain ⟨hS, hR, pw, hPN, hel, hinj, hop, hwho, -⟩ := h
  obtain ⟨e3, e4, e15, e5, e16⟩ := hel a ha
  constructor
  · intro z
    have z2 : v 5 a.2 = 0 := by
      rw [← e15, z]
      exact hop j hj hpos
    refine ⟨?_, z2⟩
    obtain ⟨y, hy, ey⟩ := hwho a.2 (hPN a ha)
    have := e16 z2
    rw [ey, ix_nI (by omega), z] at this
    rw [ey, hinj y hy j hj (by rw [this]; exact hpos) this]
  · rintro ⟨z1, z2⟩
    have := e16 z2
    rw [z1, ix_nI (by omega)] at this
    exact this.symm
theorem INV_commit {k N : Nat} {u v : Mem} (x : Int32) (h : INV k u v) (hk : k < 64) (hN : v 0 0 = nI N) (hNk : N ≤ k) : (commitF u x).1 = (mcommitF v N x).1 ∧ INV (k + 1) (commitF u x).2 (mcommitF v N x).2 := by
  have hmono := INV_mono h
  obtain ⟨N1, t, P, hX, hM, hE, h17, h7, ht, hN1⟩ := h
  have eN : N1 = N := (nI_eq (by omega) (by omega)).mp (hM.1.symm.trans hN)
  subst eN
  unfold commitF mcommitF
  by_cases hs : sessF x = 0
  · rw [if_pos hs, if_pos (cntF_n v x hs _ _ _)]
    exact ⟨rfl, hmono⟩
  rw [if_neg hs]
  obtain ⟨j, hj, rfl⟩ := sess_of hs
  rw [ix_nI (by omega)]
  rcases changes_rel hX hE hj with ⟨z1, z2⟩ | ⟨hpos, -, z3⟩
  · rw [if_pos z1, if_pos z2]
    exact ⟨rfl, hmono⟩
  rw [if_neg hpos, if_neg z3]
  obtain ⟨ep, hp⟩ := okN.ix (hX.1.1 16 j) (by decide) hpos
  obtain ⟨p, epp⟩ : ∃ p, p = ix (u 16 j) := ⟨_, rfl⟩
  have ep : u 16 j = nI p := by rw [epp]; exact ep
  have hp : p < 32 := by rw [epp]; exact hp
  clear epp
  have hmine := fun a ha => mine_iff hX hj hpos (a := a) ha
  obtain ⟨u', eu⟩ : ∃ u', u' = commit1F u j := ⟨_, rfl⟩
  obtain ⟨v', ev⟩ : ∃ v', v' = mcommit1F v N1 (nI j) := ⟨_, rfl⟩
  rw [← eu, ← ev]
  have hpx : ix (u 16 j) = p := by rw [ep]; exact ix_nI (by omega)
  have eu2 : u' = pk (pk (pk u 17 0 (nI (t + 1))) 15 p (nI (t + 1))) 16 j (-1) := by
    rw [eu]
    show pk (pk (pk u 17 0 (u 17 0 + 1)) 15 (ix (u 16 j)) (u 17 0 + 1)) 16 j (b8 (-1)) = _
    rw [hpx, h17, nI_1, b8_m1]
  have a17 : u' 17 0 = nI (t + 1) := by rw [eu2]; rfl
  have a15 : u' 15 = upd (u 15) p (nI (t + 1)) := by rw [eu2]; rfl
  have a16 : u' 16 = upd (u 16) j (-1) := by rw [eu2]; rfl
  have ao : ∀ k, k < 15 → u' k = u k := fun k hk => by
    rw [eu2, pk_ne (by omega), pk_ne (by omega), pk_ne (by omega)]
  have b7 : v' 7 0 = nI (t + 1) := by
    rw [ev]
    unfold mcommit1F
    rw [relF_o _ (by omega), cmtF_o _ (by omega), pk_i, if_pos rfl, h7, nI_1]
  have b9 : ∀ g, g < 8 → v' 9 g = if v 9 g = nI j then -4 else v 9 g := fun g hg => by
    rw [ev]
    unfold mcommit1F
    rw [rel_9 _ _ hg, cmtF_o _ (by omega), pk_ne (by omega)]
  have b5 : ∀ c, c < N1 → v' 5 c = if v 4 c = nI j ∧ v 5 c = 0 then nI (t + 1) else v 5 c := fun c hc => by
    rw [ev]
    unfold mcommit1F
    rw [relF_o _ (by omega), cmtF_5, pk_ne (by omega), pk_ne (by omega), pk_i, if_pos rfl, h7, nI_1]
    by_cases q : v 4 c = nI j ∧ v 5 c = 0
    · rw [if_pos q, if_pos ⟨Nat.zero_le _, by omega, q⟩]
    · rw [if_neg q, if_neg (fun z => q z.2.2)]
  have bo : ∀ k, k ≠ 5 → k ≠ 7 → k ≠ 9 → v' k = v k := fun k h1 h2 h3 => by
    rw [ev]
    unfold mcommit1F
    rw [relF_o _ h3, cmtF_o _ h1, pk_ne h2]
  have b1' := bo 1 (by omega) (by omega) (by omega)
  have b2 := bo 2 (by omega) (by omega) (by omega)
  have b3 := bo 3 (by omega) (by omega) (by omega)
  have b4 := bo 4 (by omega) (by omega) (by omega)
  have b10 := bo 10 (by omega) (by omega) (by omega)
  have tpos : ¬ nI (t + 1) < 0 := nI_pos (by omega)
  have tne : ¬ nI (t + 1) = 0 := nI_ne0 (by omega) (by omega)
  have sgn : ∀ c, c < N1 → (v' 5 c < 0 ↔ v 5 c < 0) := fun c hc => by
    rw [b5 c hc]
    split
    · rename_i z
      rw [z.2]
      exact ⟨fun q => absurd q tpos, fun q => absurd q (by decide)⟩
    · exact Iff.rfl
  have zer : ∀ c, c < N1 → v' 5 c = 0 → v 5 c = 0 ∧ ¬ v 4 c = nI j := fun c hc z => by
    rw [b5 c hc] at z
    split at z
    · exact absurd z tne
    · rename_i q
      exact ⟨z, fun y => q ⟨y, z⟩⟩
  have zer' : ∀ c, c < N1 → v 5 c = 0 → ¬ v 4 c = nI j → v' 5 c = 0 := fun c hc z q => by
    rw [b5 c hc, if_neg (fun y => q y.1)]
    exact z
  have hlv : ∀ (ρ : Int32) (M : Nat), M ≤ N1 → lastv v' ρ M = lastv v ρ M := fun ρ M hM => lastv_congr ρ M (fun n hn => by
    rw [b1', b2]
    exact ⟨rfl, rfl, sgn n (by omega)⟩)
  have p16 : ∀ y, ¬ y = j → u' 16 y = u 16 y := fun y hy => by rw [a16]; exact pk_un hy
  have p16j : u' 16 j = -1 := by rw [a16]; exact pk_us
  have y16 : ∀ y, ¬ u' 16 y < 0 → ¬ y = j := fun y hy e => hy (by rw [e, p16j]; decide)
  obtain ⟨hS, hR, pw, hPN, hel, hinj, hop, hwho, hrow, hopen, hold, hbef, hrows, hsuf, hlk⟩ := hX
  have W := hS.1
  have W' : WF u' := by
    rw [eu2]
    exact WF_pk (WF_pk (WF_pk W trivial) trivial) (Or.inl rfl)
  have e15 : ∀ a ∈ P, u' 15 (ix (u 5 a.1)) = if v 4 a.2 = nI j ∧ v 5 a.2 = 0 then nI (t + 1) else u 15 (ix (u 5 a.1)) := fun a ha => by
    rw [a15]
    unfold upd
    obtain ⟨p2, hp2, ep2⟩ : okP 32 (u 5 a.1) := W 5 a.1
    have hm := hmine a ha
    rw [ep2, ep] at hm
    rw [ep2, ix_nI (by omega)]
    by_cases q : p2 = p
    · rw [if_pos q, if_pos (hm.mp (by rw [q]))]
    · rw [if_neg q, if_neg (fun z => q ((nI_eq (by omega) (by omega)).mp (hm.mpr z)))]
  have sl : SL0 u' (P.map Prod.fst) := by
    obtain ⟨_, nd, hlt, hu, hc, hdl, h14, h13⟩ := hS
    refine ⟨W', nd, hlt, ?_, ?_, ?_, ?_, ?_⟩
    · rw [ao 9 (by omega)]; exact hu
    · rw [ao 12 (by omega)]; exact hc
    · rw [ao 7 (by omega), ao 8 (by omega), ao 10 (by omega), ao 11 (by omega)]; exact hdl
    · rw [ao 14 (by omega), ao 5 (by omega)]; exact h14
    · rw [ao 13 (by omega), ao 5 (by omega)]
      intro q hq
      rw [h13 q hq]
      constructor
      · rintro (z | ⟨y, hy, z⟩)
        · exact Or.inl z
        · by_cases e : y = j
          · obtain ⟨a, ha, z2⟩ := hE.1 j hj hpos
            exact Or.inl ⟨a.1, List.mem_map.mpr ⟨a, ha, rfl⟩, by rw [z2, ← e]; exact z⟩
          · exact Or.inr ⟨y, hy, by rw [p16 y e]; exact z⟩
      · rintro (z | ⟨y, hy, z⟩)
        · exact Or.inl z
        · by_cases e : y = j
          · rw [e, p16j] at z
            exact absurd z.symm (nIne (by omega))
          · exact Or.inr ⟨y, hy, by rw [← p16 y e]; exact z⟩
  show u' 17 0 = v' 7 0 ∧ INV (k + 1) u' v'
  refine ⟨by rw [a17, b7], N1, t + 1, P, ⟨sl, ?_, pw, hPN, ?_, ?_, ?_, ?_, ?_, ?_, ?_, ?_, ?_, ?_, ?_⟩, ⟨?_, ?_, ?_⟩, ⟨?_, ?_⟩, a17, b7, by omega, by omega⟩
  · intro r hr
    rw [rowL_cong (ao 3 (by omega)), ao 6 (by omega), ao 1 (by omega)]
    exact hR r hr
  · intro a ha
    obtain ⟨f3, f4, f15, f5, f16⟩ := hel a ha
    have haN := hPN a ha
    rw [ao 3 (by omega), ao 4 (by omega), ao 5 (by omega), e15 a ha, b1', b3, b4, f15]
    refine ⟨f3, f4, by rw [b5 _ haN], fun z => f5 ((sgn _ haN).mp z), fun z => ?_⟩
    obtain ⟨z1, z2⟩ := zer _ haN z
    rw [p16]
    · exact f16 z1
    · obtain ⟨y, hy, ey⟩ := hwho a.2 haN
      rw [ey, ix_nI (by omega)]
      exact fun e => z2 (by rw [ey, e])
  · intro y hy z hz hy0 e
    have q1 := y16 y hy0
    rw [p16 y q1] at hy0 e
    by_cases q2 : z = j
    · rw [q2, p16j] at e
      exact absurd (by rw [e]; decide) hy0
    · rw [p16 z q2] at e
      exact hinj y hy z hz hy0 e
  · intro y hy hy0
    have q1 := y16 y hy0
    rw [p16 y q1] at hy0 ⊢
    rw [a15]
    obtain ⟨e1, e2⟩ := okN.ix (W 16 y) (by decide) hy0
    rw [show upd (u 15) p (nI (t + 1)) (ix (u 16 y)) = u 15 (ix (u 16 y)) from pk_un (fun z => q1 (hinj y hy j hj hy0 (by rw [ep, e1]; exact congrArg nI z)))]
    exact hop y hy hy0
  · rw [b4]; exact hwho
  · rw [b1']; exact hrow
  · intro c hc z
    exact hopen c hc (zer c hc z).1
  · intro c hc h5 hno
    have h5' : ¬ v 5 c < 0 := fun z => h5 ((sgn c hc).mpr z)
    have hn : ¬ v 5 c = 0 := fun z => by
      obtain ⟨a, ha, e⟩ := hopen c hc z
      exact hno a ha e
    rw [b5 c hc, if_neg (fun z => hn z.2), b1', b10]
    exact hold c hc h5' hno
  · intro c hc h5
    rw [b3, b1', hlv _ _ (by omega)]
    exact hbef c hc (fun z => h5 ((sgn c hc).mpr z))
  · intro r hr
    rw [ao 0 (by omega), ao 2 (by omega), b10, hlv _ _ (Nat.le_refl _)]
    exact hrows r hr
  · intro a ha b hb hlt
    rw [b1']
    intro e z
    obtain ⟨z1, z2⟩ := zer _ (hPN a ha) z
    have z3 := hsuf a ha b hb hlt e z1
    refine zer' _ (hPN b hb) z3 ?_
    rw [← hlk b hb z3, ← e, hlk a ha z1]
    exact z2
  · intro a ha z
    obtain ⟨z1, z2⟩ := zer _ (hPN a ha) z
    obtain ⟨r, hr, er⟩ := hrow a.2
    have := hlk a ha z1
    rw [er, ix_nI (by omega)] at this
    rw [b1', b4, er, ix_nI (by omega), b9 r hr, this, if_neg z2]
  · rw [bo 0 (by omega) (by omega) (by omega)]; exact hM.1
  · rw [bo 6 (by omega) (by omega) (by omega)]; exact hM.2.1
  · intro r hr
    rw [bo 8 (by omega) (by omega) (by omega), hlv _ _ (Nat.le_refl _)]
    exact hM.2.2 r hr
  · intro y hy hy0
    have q1 := y16 y hy0
    rw [p16 y q1] at hy0 ⊢
    rw [ao 5 (by omega)]
    exact hE.1 y hy hy0
  · intro r hr
    rw [b9 r hr]
    by_cases q : v 9 r = nI j
    · rw [if_pos q]; exact Or.inl rfl
    · rw [if_neg q]
      rcases hE.2 r hr with z | ⟨a, ha, z1, z2, z3⟩
      · exact Or.inl z
      · exact Or.inr ⟨a, ha, by rw [b1']; exact z1, zer' _ (hPN a ha) z2 (by rw [z3]; exact q), by rw [b4]; exact z3⟩
end
section
/-! ===== rollback, in both ===== -/
def RB (j : Nat) (u v : Mem) (N : Nat) (P : List (Nat × Nat)) (u' v' : Mem) (P' : List (Nat × Nat)) : Prop :=
  LX u' v' N P' ∧ (∀ k, k = 2 ∨ k = 3 ∨ k = 4 ∨ k = 5 ∨ 14 < k → u' k = u k) ∧ (∀ k, k ≠ 5 → v' k = v k) ∧ (∀ c, v' 5 c = v 5 c ∨ (v' 5 c = -1 ∧ v 4 c = nI j ∧ v 5 c = 0)) ∧ (∀ a ∈ P', a ∈ P) ∧ (∀ a ∈ P, a ∈ P' ∨ v' 5 a.2 = -1)
theorem rb_in {j : Nat} {u v : Mem} {N : Nat} {P : List (Nat × Nat)} (hj : j < 4) (hpos : ¬ u 16 j < 0) {r : Nat} (hr : r < 8) :
    ∀ (n : Nat) (u' v' : Mem) (P' : List (Nat × Nat)), P'.length ≤ n → RB j u v N P u' v' P' → ∃ v2 P2, RB j u v N P (rbIn (u 16 j) r n u') v2 P2 ∧ (∀ a ∈ P2, a ∈ P') ∧ (∀ a ∈ P2, v 1 a.2 = nI r → ¬ u 5 a.1 = u 16 j) := by
  intro n
  induction n with
  | zero =>
    intro u' v' P' hl h
    have : P' = [] := List.length_eq_zero_iff.mp (by omega)
    subst this
    exact ⟨v', [], h, fun a ha => ha, fun a ha => by cases ha⟩
  | succ n ih =>
    intro u' v' P' hl h
    have h' := h
    obtain ⟨hX, ho, hvo, h5, hs1, hs2⟩ := h'
    have e16 := ho 16 (by omega)
    have e5 := ho 5 (by omega)
    have ev1 := hvo 1 (by omega)
    have ev4 := hvo 4 (by omega)
    have hpos' : ¬ u' 16 j < 0 := by rw [e16]; exact hpos
    unfold rbIn
    rcases newest_of hX hr with ⟨h1, h2⟩ | ⟨a, ha, h1, h2, h3, h4⟩
    · rw [if_pos (by rw [h1]; decide)]
      rw [ev1] at h2
      exact ⟨v', P', h, fun a ha => ha, fun a ha z => absurd z (h2 a ha)⟩
    · have hix : ix (u' 1 r) = a.1 := by rw [h2]; exact ix_nI (by omega)
      rw [if_neg (by rw [h2]; exact nI_pos (by omega)), hix]
      by_cases q : u' 5 a.1 = u 16 j
      · rw [if_pos q]
        have hm := (mine_iff hX hj hpos' ha).mp (by rw [e16]; exact q)
        obtain ⟨A, B, hP, hX2, ho2⟩ := LX_pop hX hr ha h1 h2 h4
        have hsub : ∀ b, b ∈ A ++ B → b ∈ P' := fun b hb => by
          rw [hP]
          rcases List.mem_append.mp hb with z | z
          · exact List.mem_append_left _ z
          · exact List.mem_append_right _ (List.mem_cons_of_mem _ z)
        have hmem : ∀ b, b ∈ P' → b = a ∨ b ∈ A ++ B := fun b hb => by
          rw [hP] at hb
          rcases List.mem_append.mp hb with z | z
          · exact Or.inr (List.mem_append_left _ z)
          · rcases List.mem_cons.mp z with z | z
            · exact Or.inl z
            · exact Or.inr (List.mem_append_right _ z)
        have hlen : (A ++ B).length ≤ n := by
          rw [hP] at hl
          simp at hl ⊢
          omega
        have v5 : ∀ c, pk v' 5 a.2 (-1) 5 c = if c = a.2 then -1 else v' 5 c := fun c => pk_i
        obtain ⟨v2, P2, hB, z1, z2⟩ := ih (popF u' r) (pk v' 5 a.2 (-1)) (A ++ B) hlen ⟨hX2, fun k hk => by rw [ho2 k hk, ho k hk], fun k hk => by rw [pk_ne hk, hvo k hk], fun c => by
            rw [v5]
            by_cases e : c = a.2
            · rw [if_pos e, e]
              refine Or.inr ⟨rfl, by rw [← ev4]; exact hm.1, ?_⟩
              rcases h5 a.2 with z | ⟨z, -⟩
              · rw [← z]; exact hm.2
              · rw [z] at hm
                exact absurd hm.2 (by decide)
            · rw [if_neg e]; exact h5 c, fun b hb => hs1 b (hsub b hb), fun b hb => by
            rw [v5]
            rcases hs2 b hb with z | z
            · rcases hmem b z with y | y
              · rw [y, if_pos rfl]; exact Or.inr rfl
              · exact Or.inl y
            · right
              split
              · rfl
              · exact z⟩
        exact ⟨v2, P2, hB, fun b hb => hsub b (z1 b hb), z2⟩
      · rw [if_neg q]
        refine ⟨v', P', h, fun a ha => ha, fun b hb z1 z2 => ?_⟩
        obtain ⟨hS, hR, pw, hPN, hel, hinj, hop, hwho, hrow, hopen, hold, hbef, hrows, hsuf, hlk⟩ := id hX
        have hmb := (mine_iff hX hj hpos' hb).mp (by rw [e16, e5]; exact z2)
        have z1' : v' 1 b.2 = nI r := by rw [ev1]; exact z1
        rcases h4 b hb z1' with y | y
        · rw [y] at z2
          exact q (by rw [e5]; exact z2)
        · have y5 := hsuf b hb a ha y (z1'.trans h1.symm) hmb.2
          have y4 : v' 4 a.2 = nI j := by rw [← hlk a ha y5, h1, ← z1', hlk b hb hmb.2]; exact hmb.1
          have := (mine_iff hX hj hpos' ha).mpr ⟨y4, y5⟩
          rw [e16] at this
          exact q this
theorem rb_out {j : Nat} {u v : Mem} {N : Nat} {P : List (Nat × Nat)} (hj : j < 4) (hpos : ¬ u 16 j < 0) :
    ∀ (n r : Nat) (u' v' : Mem) (P' : List (Nat × Nat)), n + r = 8 → RB j u v N P u' v' P' → (∀ a ∈ P', ∀ g, g < r → v 1 a.2 = nI g → ¬ u 5 a.1 = u 16 j) → ∃ v2 P2, RB j u v N P (rbOut (u 16 j) n r u') v2 P2 ∧ (∀ a ∈ P2, ∀ g, g < 8 → v 1 a.2 = nI g → ¬ u 5 a.1 = u 16 j) := by
  intro n
  induction n with
  | zero =>
    intro r u' v' P' hr h hd
    exact ⟨v', P', h, fun a ha g hg => hd a ha g (by omega)⟩
  | succ n ih =>
    intro r u' v' P' hr h hd
    have hlen : P'.length ≤ 24 := by
      have := nodup_le 24 _ h.1.1.2.1 h.1.1.2.2.1
      rwa [List.length_map] at this
    obtain ⟨v2, P2, h2, z1, z2⟩ := rb_in hj hpos (r := r) (by omega) 24 u' v' P' hlen h
    exact ih (r + 1) (rbIn (u 16 j) r 24 u') v2 P2 (by omega) h2 (fun a ha g hg e => by
      by_cases q : g = r
      · rw [q] at e
        exact z2 a ha e
      · exact hd a (z1 a ha) g (by omega) e)
theorem rb_all {j : Nat} {u v : Mem} {N : Nat} {P : List (Nat × Nat)} (hX : LX u v N P) (hj : j < 4) (hpos : ¬ u 16 j < 0) : ∃ v2 P2, RB j u v N P (rbOut (u 16 j) 8 0 u) v2 P2 ∧ ∀ a ∈ P2, ¬ u 5 a.1 = u 16 j := by
  obtain ⟨v2, P2, h, z⟩ := rb_out (u := u) (v := v) (N := N) (P := P) hj hpos 8 0 u v P rfl ⟨hX, fun _ _ => rfl, fun _ _ => rfl, fun _ => Or.inl rfl, fun _ h => h, fun _ h => Or.inl h⟩ (fun _ _ g hg => absurd hg (by omega))
  refine ⟨v2, P2, h, fun a ha => ?_⟩
  obtain ⟨r, hr, er⟩ := hX.2.2.2.2.2.2.2.2.1 a.2
  exact z a ha r hr er
-- ----- the model's -----
theorem lastv_congr2 {v v' : Mem} (r : Int32) : ∀ M : Nat, (∀ n, n < M → v' 1 n = v 1 n ∧ v' 2 n = v 2 n ∧ (v 1 n = r → (v' 5 n < 0 ↔ v 5 n < 0))) → lastv v' r M = lastv v r M
  | 0, _ => rfl
  | M + 1, h => by
    obtain ⟨h1, h2, h3⟩ := h M (by omega)
    rw [lastv_s, lastv_s, h1, h2, lastv_congr2 r M (fun n hn => h n (by omega))]
    by_cases q : v 1 M = r ∧ ¬ v 5 M < 0
    · rw [if_pos q, if_pos ⟨q.1, fun z => q.2 ((h3 q.1).mp z)⟩]
    · rw [if_neg q, if_neg (fun z => q ⟨z.1, fun y => z.2 ((h3 z.1).mpr y)⟩)]
def MR (x : Int32) (v : Mem) (N n : Nat) (w : Mem) : Prop :=
  (∀ k, k ≠ 5 → k ≠ 6 → k ≠ 8 → w k = v k) ∧ (∀ c, w 5 c = if n ≤ c ∧ c < N ∧ v 4 c = x ∧ v 5 c = 0 then -1 else v 5 c) ∧ (∀ c, w 6 c = if n ≤ c ∧ c < N ∧ v 4 c = x ∧ v 5 c = 0 then 0 else v 6 c) ∧ (∀ r, r < 8 → w 8 r = lastv w (nI r) N)
theorem mrb_spec {v : Mem} {N : Nat} {x : Int32} (hb : ∀ c, c < N → v 4 c = x → v 5 c = 0 → v 3 c = lastv v (v 1 c) c ∧ okP 8 (v 1 c) ∧ ∀ d, c < d → d < N → v 1 d = v 1 c → ¬ v 5 d < 0 → v 4 d = x ∧ v 5 d = 0) :
    ∀ (n : Nat) (w : Mem), n ≤ N → MR x v N n w → MR x v N 0 (mrbF x n w) := by
  intro n
  induction n with
  | zero => exact fun w _ h => h
  | succ n ih =>
    intro w hn h
    have h' := h
    obtain ⟨wo, w5, w6, w8⟩ := h'
    unfold mrbF
    refine ih _ (by omega) ?_
    have e4 : w 4 n = v 4 n := by rw [wo 4 (by omega) (by omega) (by omega)]
    have e5 : w 5 n = v 5 n := by rw [w5, if_neg (fun z => by omega)]
    rw [e4, e5]
    have w1 := wo 1 (by omega) (by omega) (by omega)
    have w2 := wo 2 (by omega) (by omega) (by omega)
    by_cases q : v 4 n = x ∧ v 5 n = 0
    · rw [if_pos q.1, if_pos q.2]
      obtain ⟨f3, ⟨ρ, hρ, f1⟩, fd⟩ := hb n (by omega) q.1 q.2
      have eM : mpopF w n = pk (pk (pk w 8 ρ (v 3 n)) 5 n (-1)) 6 n 0 := by
        show pk (pk (pk w 8 (ix (w 1 n)) (w 3 n)) 5 n (-1)) 6 n (b1 0) = _
        rw [w1, wo 3 (by omega) (by omega) (by omega), f1, ix_nI (by omega), b1_0]
      obtain ⟨w', ew⟩ : ∃ w', w' = mpopF w n := ⟨_, rfl⟩
      rw [← ew] at eM ⊢
      have mo : ∀ k, k ≠ 5 → k ≠ 6 → k ≠ 8 → w' k = w k := fun k h5 h6 h8 => by rw [eM, pk_ne h6, pk_ne h5, pk_ne h8]
      have m5 : ∀ c, w' 5 c = if c = n then -1 else w 5 c := fun c => by rw [eM, pk_ne (by omega), pk_i, pk_ne (by omega)]
      have m6 : ∀ c, w' 6 c = if c = n then 0 else w 6 c := fun c => by rw [eM, pk_i, pk_ne (by omega), pk_ne (by omega)]
      have m8 : ∀ r, w' 8 r = if r = ρ then v 3 n else w 8 r := fun r => by rw [eM, pk_ne (by omega), pk_ne (by omega), pk_i]
      have m1 : w' 1 = v 1 := by rw [mo 1 (by omega) (by omega) (by omega), w1]
      have m2 : w' 2 = v 2 := by rw [mo 2 (by omega) (by omega) (by omega), w2]
      have m5' : ∀ c, w' 5 c = if n ≤ c ∧ c < N ∧ v 4 c = x ∧ v 5 c = 0 then -1 else v 5 c := fun c => by
        rw [m5]
        by_cases e : c = n
        · rw [if_pos e, e, if_pos ⟨Nat.le_refl _, by omega, q⟩]
        · rw [if_neg e, w5]
          by_cases z : n ≤ c ∧ c < N ∧ v 4 c = x ∧ v 5 c = 0
          · rw [if_pos z, if_pos ⟨by omega, z.2⟩]
          · rw [if_neg z, if_neg (fun y => z ⟨by omega, y.2⟩)]
      have neg1 : (-1 : Int32) < 0 := by decide
      refine ⟨fun k h5 h6 h8 => by rw [mo k h5 h6 h8, wo k h5 h6 h8], m5', fun c => ?_, fun r hr => ?_⟩
      · rw [m6]
        by_cases e : c = n
        · rw [if_pos e, e, if_pos ⟨Nat.le_refl _, by omega, q⟩]
        · rw [if_neg e, w6]
          by_cases z : n ≤ c ∧ c < N ∧ v 4 c = x ∧ v 5 c = 0
          · rw [if_pos z, if_pos ⟨by omega, z.2⟩]
          · rw [if_neg z, if_neg (fun y => z ⟨by omega, y.2⟩)]
      · rw [m8]
        by_cases e : r = ρ
        · rw [if_pos e, e, f3, f1, lastv_skip' (v := w') (M := n) (K := N) (by omega)]
          · exact (lastv_congr _ n (fun c hc => by
              rw [m1, m2, m5', if_neg (fun z => by omega)]
              exact ⟨rfl, rfl, Iff.rfl⟩)).symm
          · intro c h1 h2 h3
            rw [m1] at h3
            rw [m5']
            by_cases ec : c = n
            · rw [if_pos ⟨h1, h2, by rw [ec]; exact q⟩]
              exact neg1
            · by_cases z : v 5 c < 0
              · split
                · exact neg1
                · exact z
              · rw [if_pos ⟨h1, h2, fd c (by omega) h2 (by rw [h3, f1]) z⟩]
                exact neg1
        · rw [if_neg e, w8 r hr]
          refine (lastv_congr2 _ N (fun c hc => ?_)).symm
          rw [m1, m2, w1, w2]
          refine ⟨rfl, rfl, fun z => ?_⟩
          rw [m5, if_neg]
          intro ec
          rw [ec, f1] at z
          exact e ((nI_eq (by omega) (by omega)).mp z).symm
    · have hw : (if v 4 n = x then (if v 5 n = 0 then mpopF w n else w) else w) = w := by
        by_cases q1 : v 4 n = x
        · rw [if_pos q1, if_neg (fun z => q ⟨q1, z⟩)]
        · rw [if_neg q1]
      rw [hw]
      have sw : ∀ c, (n + 1 ≤ c ∧ c < N ∧ v 4 c = x ∧ v 5 c = 0) ↔ (n ≤ c ∧ c < N ∧ v 4 c = x ∧ v 5 c = 0) := fun c => by
        constructor
        · exact fun z => ⟨by omega, z.2⟩
        · intro z
          refine ⟨?_, z.2⟩
          by_cases e : c = n
          · rw [e] at z
            exact absurd z.2.2 q
          · omega
      refine ⟨wo, fun c => ?_, fun c => ?_, w8⟩
      · rw [w5]
        by_cases z : n ≤ c ∧ c < N ∧ v 4 c = x ∧ v 5 c = 0
        · rw [if_pos z, if_pos ((sw c).mpr z)]
        · rw [if_neg z, if_neg (fun y => z ((sw c).mp y))]
      · rw [w6]
        by_cases z : n ≤ c ∧ c < N ∧ v 4 c = x ∧ v 5 c = 0
        · rw [if_pos z, if_pos ((sw c).mpr z)]
        · rw [if_neg z, if_neg (fun y => z ((sw c).mp y))]
theorem mrb_all {u v : Mem} {N : Nat} {P : List (Nat × Nat)} (hX : LX u v N P) (hM : LM v N P) (x : Int32) : MR x v N 0 (mrbF x N v) := by
  obtain ⟨hS, hR, pw, hPN, hel, hinj, hop, hwho, hrow, hopen, hold, hbef, hrows, hsuf, hlk⟩ := hX
  refine mrb_spec (fun c hc h4 h5 => ?_) N v (Nat.le_refl _) ⟨fun _ _ _ _ => rfl, fun c => by rw [if_neg (fun z => by omega)], fun c => by rw [if_neg (fun z => by omega)], hM.2.2⟩
  refine ⟨hbef c hc (by rw [h5]; decide), hrow c, fun d h1 h2 h3 h6 => ?_⟩
  obtain ⟨a, ha, ea⟩ := hopen c hc h5
  have hdP : ∃ b ∈ P, b.2 = d := by
    apply Classical.byContradiction
    intro q
    have := (hold d h2 h6 (fun b hb e => q ⟨b, hb, e⟩)).1 a ha
    omega
  obtain ⟨b, hb, eb⟩ := hdP
  have y5 := hsuf a ha b hb (by omega) (by rw [ea, eb]; exact h3.symm) (by rw [ea]; exact h5)
  have la := hlk a ha (by rw [ea]; exact h5)
  have lb := hlk b hb y5
  rw [ea] at la
  rw [eb] at lb y5
  exact ⟨by rw [← lb, h3, la]; exact h4, y5⟩
end
section
theorem INV_roll {k N : Nat} {u v : Mem} (x : Int32) (h : INV k u v) (hk : k < 64) (hN : v 0 0 = nI N) (hNk : N ≤ k) : (rollF u x).1 = (mrollF v N x).1 ∧ INV (k + 1) (rollF u x).2 (mrollF v N x).2 := by
  have hmono := INV_mono h
  obtain ⟨N1, t, P, hX, hM, hE, h17, h7, ht, hN1⟩ := h
  have eN : N1 = N := (nI_eq (by omega) (by omega)).mp (hM.1.symm.trans hN)
  subst eN
  unfold rollF mrollF
  by_cases hs : sessF x = 0
  · rw [if_pos hs, if_pos (cntF_n v x hs _ _ _)]
    exact ⟨rfl, hmono⟩
  rw [if_neg hs]
  obtain ⟨j, hj, rfl⟩ := sess_of hs
  rw [ix_nI (by omega)]
  rcases changes_rel hX hE hj with ⟨z1, z2⟩ | ⟨hpos, -, z3⟩
  · rw [if_pos z1, if_pos z2]
    exact ⟨rfl, hmono⟩
  rw [if_neg hpos, if_neg z3]
  refine ⟨rfl, ?_⟩
  show INV (k + 1) (roll1F u j) (relF (nI j) 8 0 (mrbF (nI j) N1 v))
  obtain ⟨v1, P', hB, hnone⟩ := rb_all hX hj hpos
  obtain ⟨mo, m5, m6, m8⟩ := mrb_all hX hM (nI j)
  have hmine := fun a ha => mine_iff hX hj hpos (a := a) ha
  have ep0 := okN.ix (hX.1.1 16 j) (by decide) hpos
  obtain ⟨p, epp⟩ : ∃ p, p = ix (u 16 j) := ⟨_, rfl⟩
  have ep : u 16 j = nI p := by rw [epp]; exact ep0.1
  have hp : p < 32 := by rw [epp]; exact ep0.2
  clear epp ep0
  obtain ⟨u1, eu1⟩ : ∃ u1, u1 = rbOut (u 16 j) 8 0 u := ⟨_, rfl⟩
  rw [← eu1] at hB
  obtain ⟨hX1, uo, vo, v15, hs1, hs2⟩ := hB
  obtain ⟨u', eu⟩ : ∃ u', u' = roll1F u j := ⟨_, rfl⟩
  obtain ⟨v', ev⟩ : ∃ v', v' = relF (nI j) 8 0 (mrbF (nI j) N1 v) := ⟨_, rfl⟩
  rw [← eu, ← ev]
  have eu2 : u' = pk (pk u1 13 0 (u1 13 0 &&& (bitm p ^^^ (-1)))) 16 j (-1) := by
    rw [eu]
    show pk (pk (rbOut (u 16 j) 8 0 u) 13 0 (rbOut (u 16 j) 8 0 u 13 0 &&& (((1 : Int32) <<< (u 16 j &&& 31)) ^^^ (-1)))) 16 j (b8 (-1)) = _
    rw [← eu1, ep, b8_m1]
  have a13 : u' 13 0 = u1 13 0 &&& (bitm p ^^^ (-1)) := by rw [eu2]; rfl
  have a16 : u' 16 = upd (u1 16) j (-1) := by rw [eu2]; rfl
  have ao : ∀ k, k ≠ 13 → k ≠ 16 → u' k = u1 k := fun k h1 h2 => by rw [eu2, pk_ne h2, pk_ne h1]
  have e16 : u1 16 = u 16 := uo 16 (by omega)
  have e5 : u1 5 = u 5 := uo 5 (by omega)
  have p16 : ∀ y, ¬ y = j → u' 16 y = u 16 y := fun y hy => by rw [a16, e16]; exact pk_un hy
  have p16j : u' 16 j = -1 := by rw [a16]; exact pk_us
  have y16 : ∀ y, ¬ u' 16 y < 0 → ¬ y = j := fun y hy e => hy (by rw [e, p16j]; decide)
  have b9 : ∀ g, g < 8 → v' 9 g = if v 9 g = nI j then -4 else v 9 g := fun g hg => by
    rw [ev, rel_9 _ _ hg, mo 9 (by omega) (by omega) (by omega)]
  have bo : ∀ k, k ≠ 5 → k ≠ 6 → k ≠ 8 → k ≠ 9 → v' k = v k := fun k h1 h2 h3 h4 => by
    rw [ev, relF_o _ h4, mo k h1 h2 h3]
  have b5 : ∀ c, c < N1 → v' 5 c = if v 4 c = nI j ∧ v 5 c = 0 then -1 else v 5 c := fun c hc => by
    rw [ev, relF_o _ (by omega), m5]
    by_cases q : v 4 c = nI j ∧ v 5 c = 0
    · rw [if_pos q, if_pos ⟨Nat.zero_le _, hc, q⟩]
    · rw [if_neg q, if_neg (fun z => q z.2.2)]
  have b6 : ∀ c, c < N1 → v' 6 c = if v 4 c = nI j ∧ v 5 c = 0 then 0 else v 6 c := fun c hc => by
    rw [ev, relF_o _ (by omega), m6]
    by_cases q : v 4 c = nI j ∧ v 5 c = 0
    · rw [if_pos q, if_pos ⟨Nat.zero_le _, hc, q⟩]
    · rw [if_neg q, if_neg (fun z => q z.2.2)]
  have b1' := bo 1 (by omega) (by omega) (by omega) (by omega)
  have b2 := bo 2 (by omega) (by omega) (by omega) (by omega)
  have b3 := bo 3 (by omega) (by omega) (by omega) (by omega)
  have b4 := bo 4 (by omega) (by omega) (by omega) (by omega)
  have b10 := bo 10 (by omega) (by omega) (by omega) (by omega)
  obtain ⟨hS, hR, pw, hPN, hel, hinj, hop, hwho, hrow, hopen, hold, hbef, hrows, hsuf, hlk⟩ := hX
  -- the two models agree
  have q5 : ∀ c, c < N1 → v' 5 c = v1 5 c := fun c hc => by
    rw [b5 c hc]
    by_cases q : v 4 c = nI j ∧ v 5 c = 0
    · rw [if_pos q]
      obtain ⟨a, ha, ea⟩ := hopen c hc q.2
      rcases hs2 a ha with z | z
      · exact absurd ((hmine a ha).mpr (by rw [ea]; exact q)) (hnone a z)
      · rw [← ea, z]
    · rw [if_neg q]
      rcases v15 c with z | z
      · exact z.symm
      · exact absurd z.2 q
  have c1 : v1 1 = v 1 := vo 1 (by omega)
  have c2 : v1 2 = v 2 := vo 2 (by omega)
  have c3 : v1 3 = v 3 := vo 3 (by omega)
  have c4 : v1 4 = v 4 := vo 4 (by omega)
  have c9 : v1 9 = v 9 := vo 9 (by omega)
  have c10 : v1 10 = v 10 := vo 10 (by omega)
  have hlv : ∀ (ρ : Int32) (M : Nat), M ≤ N1 → lastv v' ρ M = lastv v1 ρ M := fun ρ M hM => lastv_congr ρ M (fun n hn => by
    rw [b1', b2, c1, c2, q5 n (by omega)]
    exact ⟨rfl, rfl, Iff.rfl⟩)
  have hnj : ∀ a ∈ P', v1 5 a.2 = 0 → v 5 a.2 = 0 ∧ ¬ v 4 a.2 = nI j := fun a ha z => by
    have z5 : v 5 a.2 = 0 := by
      rcases v15 a.2 with y | y
      · rw [← y]; exact z
      · exact y.2.2
    exact ⟨z5, fun y => hnone a ha ((hmine a (hs1 a ha)).mpr ⟨y, z5⟩)⟩
  have hin : ∀ a ∈ P, ¬ (v 4 a.2 = nI j ∧ v 5 a.2 = 0) → a ∈ P' := fun a ha q => by
    rcases hs2 a ha with z | z
    · exact z
    · rcases v15 a.2 with y | y
      · rw [z] at y
        exact absurd (by rw [← y]; decide) (hel a ha).2.2.2.1
      · exact absurd y.2 q
  obtain ⟨gS, gR, gpw, gPN, gel, ginj, gop, gwho, grow, gopen, gold, gbef, grows, gsuf, glk⟩ := hX1
  have W1 := gS.1
  have W' : WF u' := by
    rw [eu2]
    exact WF_pk (WF_pk W1 trivial) (Or.inl rfl)
  have sl : SL0 u' (P'.map Prod.fst) := by
    obtain ⟨_, nd, hlt, hu, hc, hdl, h14, h13⟩ := gS
    refine ⟨W', nd, hlt, ?_, ?_, ?_, ?_, ?_⟩
    · rw [ao 9 (by omega) (by omega)]; exact hu
    · rw [ao 12 (by omega) (by omega)]; exact hc
    · rw [ao 7 (by omega) (by omega), ao 8 (by omega) (by omega), ao 10 (by omega) (by omega), ao 11 (by omega) (by omega)]; exact hdl
    · rw [ao 14 (by omega) (by omega), ao 5 (by omega) (by omega)]; exact h14
    · rw [ao 5 (by omega) (by omega), a13]
      intro q hq
      rw [bt_clr _ hp hq, h13 q hq]
      constructor
      · rintro ⟨z | ⟨y, hy, z⟩, hqp⟩
        · exact Or.inl z
        · refine Or.inr ⟨y, hy, ?_⟩
          rw [e16] at z
          rw [p16]
          · exact z
          · intro e
            rw [e, ep] at z
            exact hqp ((nI_eq (by omega) (by omega)).mp z).symm
      · rintro (⟨s, hs, z⟩ | ⟨y, hy, z⟩)
        · refine ⟨Or.inl ⟨s, hs, z⟩, fun e => ?_⟩
          obtain ⟨a, ha, ea⟩ := List.mem_map.mp hs
          refine hnone a ha ?_
          rw [ea, ← e5, z, e, ep]
        · by_cases e : y = j
          · rw [e, p16j] at z
            exact absurd z.symm (nIne (by omega))
          · rw [p16 y e] at z
            refine ⟨Or.inr ⟨y, hy, by rw [e16]; exact z⟩, fun eq => e ?_⟩
            exact hinj y hy j hj (by rw [z]; exact nI_pos (by omega)) (by rw [z, eq, ep])
  refine ⟨N1, t, P', ⟨sl, ?_, gpw, gPN, ?_, ?_, ?_, ?_, ?_, ?_, ?_, ?_, ?_, ?_, ?_⟩, ⟨?_, ?_, ?_⟩, ⟨?_, ?_⟩, by rw [ao 17 (by omega) (by omega), uo 17 (by omega)]; exact h17, by rw [bo 7 (by omega) (by omega) (by omega) (by omega)]; exact h7, by omega, by omega⟩
  · intro r hr
    rw [rowL_cong (ao 3 (by omega) (by omega)), ao 6 (by omega) (by omega), ao 1 (by omega) (by omega)]
    exact gR r hr
  · intro a ha
    have haN := gPN a ha
    obtain ⟨f3, f4, f15, f5, f16⟩ := gel a ha
    rw [c1] at f3
    rw [c3] at f4
    rw [ao 3 (by omega) (by omega), ao 4 (by omega) (by omega), ao 5 (by omega) (by omega), ao 15 (by omega) (by omega), q5 _ haN, b1', b3, b4]
    refine ⟨f3, f4, f15, f5, fun z => ?_⟩
    obtain ⟨z1, z2⟩ := hnj a ha z
    have z3 := f16 z
    rw [c4, e16] at z3
    rw [p16]
    · exact z3
    · obtain ⟨y, hy, ey⟩ := hwho a.2 haN
      rw [ey, ix_nI (by omega)]
      exact fun e => z2 (by rw [ey, e])
  · intro y hy z hz hy0 e
    have q1 := y16 y hy0
    rw [p16 y q1] at hy0 e
    by_cases q2 : z = j
    · rw [q2, p16j] at e
      exact absurd (by rw [e]; decide) hy0
    · rw [p16 z q2] at e
      exact hinj y hy z hz hy0 e
  · intro y hy hy0
    have q1 := y16 y hy0
    rw [p16 y q1] at hy0 ⊢
    rw [ao 15 (by omega) (by omega), uo 15 (by omega)]
    exact hop y hy hy0
  · rw [b4]; exact hwho
  · rw [b1']; exact hrow
  · intro c hc z
    rw [q5 c hc] at z
    exact gopen c hc z
  · intro c hc h5 hno
    rw [q5 c hc] at h5 ⊢
    rw [b1', b10, ← c1, ← c10]
    exact gold c hc h5 hno
  · intro c hc h5
    rw [q5 c hc] at h5
    rw [b3, b1', hlv _ _ (by omega), ← c1, ← c3]
    exact gbef c hc h5
  · intro r hr
    rw [ao 0 (by omega) (by omega), ao 2 (by omega) (by omega), b10, hlv _ _ (Nat.le_refl _), ← c10]
    exact grows r hr
  · intro a ha b hb hlt
    rw [b1', q5 _ (gPN a ha), q5 _ (gPN b hb), ← c1]
    exact gsuf a ha b hb hlt
  · intro a ha z
    rw [q5 _ (gPN a ha)] at z
    obtain ⟨z1, z2⟩ := hnj a ha z
    obtain ⟨r, hr, er⟩ := hrow a.2
    have := glk a ha z
    rw [c1, c4, c9, er, ix_nI (by omega)] at this
    rw [b1', b4, er, ix_nI (by omega), b9 r hr, this, if_neg z2]
  · rw [bo 0 (by omega) (by omega) (by omega) (by omega)]; exact hM.1
  · intro c hc
    rw [b6 c hc]
    by_cases q : v 4 c = nI j ∧ v 5 c = 0
    · rw [if_pos q]
      refine Or.inr ⟨rfl, fun a ha e => ?_⟩
      exact hnone a ha ((hmine a (hs1 a ha)).mpr (by rw [e]; exact q))
    · rw [if_neg q]
      rcases hM.2.1 c hc with ⟨z1, a, ha, z2⟩ | ⟨z1, z2⟩
      · exact Or.inl ⟨z1, a, hin a ha (by rw [z2]; exact q), z2⟩
      · exact Or.inr ⟨z1, fun a ha => z2 a (hs1 a ha)⟩
  · intro r hr
    have e8 : v' 8 r = mrbF (nI j) N1 v 8 r := by rw [ev, relF_o _ (by omega)]
    rw [e8, m8 r hr]
    refine lastv_congr _ N1 (fun n hn => ?_)
    rw [ev, relF_o _ (by omega), relF_o _ (by omega), relF_o _ (by omega)]
    exact ⟨rfl, rfl, Iff.rfl⟩
  · intro y hy hy0
    have q1 := y16 y hy0
    rw [p16 y q1] at hy0 ⊢
    rw [ao 5 (by omega) (by omega), e5]
    obtain ⟨a, ha, z⟩ := hE.1 y hy hy0
    refine ⟨a, hin a ha (fun q => q1 ?_), z⟩
    exact hinj y hy j hj hy0 (by rw [← z, (hmine a ha).mpr q])
  · intro r hr
    rw [b9 r hr]
    by_cases q : v 9 r = nI j
    · rw [if_pos q]; exact Or.inl rfl
    · rw [if_neg q]
      rcases hE.2 r hr with z | ⟨a, ha, z1, z2, z3⟩
      · exact Or.inl z
      · have hnq : ¬ (v 4 a.2 = nI j ∧ v 5 a.2 = 0) := fun y => q (by rw [← z3]; exact y.1)
        exact Or.inr ⟨a, hin a ha hnq, by rw [b1']; exact z1, by rw [b5 _ (hPN a ha), if_neg hnq]; exact z2, by rw [b4]; exact z3⟩
end
section
/-! ===== the answers, in both ===== -/
def vals (v : Mem) (r s : Int32) : Nat → Int32
  | 0 => 0
  | n + 1 => if v 1 n = r ∧ ¬ v 5 n ≤ 0 ∧ ¬ s < v 5 n then v 2 n else vals v r s n
theorem vals_s (v : Mem) (r s : Int32) (n : Nat) : vals v r s (n + 1) = if v 1 n = r ∧ ¬ v 5 n ≤ 0 ∧ ¬ s < v 5 n then v 2 n else vals v r s n := rfl
theorem valF_vals (v : Mem) (r s : Int32) : ∀ n c : Nat, valF v r s n c (vals v r s c) = vals v r s (c + n)
  | 0, c => rfl
  | n + 1, c => by
    unfold valF
    rw [show c + (n + 1) = (c + 1) + n by omega, ← valF_vals v r s n (c + 1)]
    congr 1
    unfold valStep
    rw [vals_s]
    by_cases q1 : v 1 c = r
    · rw [if_pos q1]
      by_cases q2 : v 5 c ≤ 0
      · rw [if_pos q2, if_neg (fun z => z.2.1 q2)]
      · rw [if_neg q2]
        by_cases q3 : s < v 5 c
        · rw [if_pos q3, if_neg (fun z => z.2.2 q3)]
        · rw [if_neg q3, if_pos ⟨q1, q2, q3⟩]
    · rw [if_neg q1, if_neg (fun z => q1 z.1)]
theorem vals_skip {v : Mem} {r s : Int32} {M : Nat} : ∀ K : Nat, (∀ n, M ≤ n → n < M + K → v 1 n = r → v 5 n ≤ 0 ∨ s < v 5 n) → vals v r s (M + K) = vals v r s M
  | 0, _ => rfl
  | K + 1, h => by
    rw [show M + (K + 1) = (M + K) + 1 by omega, vals_s, if_neg (fun z => (h (M + K) (by omega) (by omega) z.1).elim z.2.1 z.2.2), vals_skip K (fun n h1 h2 => h n h1 (by omega))]
theorem vals_skip' {v : Mem} {r s : Int32} {M K : Nat} (hMK : M ≤ K) (h : ∀ n, M ≤ n → n < K → v 1 n = r → v 5 n ≤ 0 ∨ s < v 5 n) : vals v r s K = vals v r s M := by
  have := vals_skip (v := v) (r := r) (s := s) (M := M) (K - M) (fun n h1 h2 => h n h1 (by omega))
  rwa [show M + (K - M) = K by omega] at this
theorem i_lt_le {x y : Int32} (h : x < y) : x ≤ y := by
  rw [Int32.lt_iff_toInt_lt] at h
  rw [Int32.le_iff_toInt_le]
  omega
theorem vals_lastv {v : Mem} {r s : Int32} : ∀ M : Nat, (∀ n, n < M → v 1 n = r → ¬ v 5 n < 0 → ¬ v 5 n ≤ 0 ∧ ¬ s < v 5 n) → vals v r s M = lastv v r M
  | 0, _ => rfl
  | M + 1, h => by
    rw [vals_s, lastv_s, vals_lastv M (fun n hn => h n (by omega))]
    by_cases q : v 1 M = r ∧ ¬ v 5 M < 0
    · rw [if_pos q, if_pos ⟨q.1, h M (by omega) q.1 q.2⟩]
    · rw [if_neg q, if_neg (fun z => q ⟨z.1, fun y => z.2.1 (i_lt_le y)⟩)]
theorem isAfter_iff {u v : Mem} {N : Nat} {P : List (Nat × Nat)} (h : LX u v N P) {a : Nat × Nat} (ha : a ∈ P) (s : Int32) : isAfterF u a.1 s = 0 ↔ ¬ v 5 a.2 = 0 ∧ v 5 a.2 ≤ s := by
  have e15 := (h.2.2.2.2.1 a ha).2.2.1
  unfold isAfterF isOpenF
  rw [e15]
  by_cases q : v 5 a.2 = 0
  · rw [if_pos q, if_neg (by decide)]
    exact ⟨fun z => absurd z (by decide), fun z => absurd q z.1⟩
  · rw [if_neg q, if_pos rfl]
    by_cases q2 : v 5 a.2 ≤ s
    · rw [if_pos q2]
      exact ⟨fun _ => ⟨q, q2⟩, fun _ => rfl⟩
    · rw [if_neg q2]
      exact ⟨fun z => absurd z (by decide), fun z => absurd z.2 q2⟩
theorem seen_chain {u v : Mem} {N : Nat} {P : List (Nat × Nat)} (h : LX u v N P) {r : Nat} (hr : r < 8) {s : Int32} (hs : u 2 r ≤ s) :
    ∀ (n M : Nat) (l : List (Nat × Nat)), l.length ≤ n → M ≤ N → l.Pairwise (fun a b => a.2 < b.2) → (∀ a, a ∈ l ↔ a ∈ P ∧ v 1 a.2 = nI r ∧ a.2 < M) → (∀ l1 a l2, l = l1 ++ a :: l2 → u 6 a.1 = ltI (l1.map Prod.fst)) →
      seenL u s n (lastv v (nI r) M) (ltI (l.map Prod.fst)) = vals v (nI r) s M := by
  have h0 := h
  obtain ⟨hS, hR, pw, hPN, hel, hinj, hop, hwho, hrow, hopen, hold, hbef, hrows, hsuf, hlk⟩ := h
  have hnil : ∀ M, M ≤ N → (∀ a, a ∈ P → v 1 a.2 = nI r → ¬ a.2 < M) → vals v (nI r) s M = lastv v (nI r) M := by
    intro M hM hno
    refine vals_lastv M (fun n hn h1 h5 => ?_)
    have hnP : ∀ a ∈ P, ¬ a.2 = n := fun a ha e => hno a ha (by rw [e]; exact h1) (by omega)
    have h5' : ¬ v 5 n = 0 := fun z => by
      obtain ⟨a, ha, e⟩ := hopen n (by omega) z
      exact hnP a ha e
    refine ⟨fun z => (i_le0 z).elim h5 h5', ?_⟩
    have z := (hold n (by omega) h5 hnP).2
    rw [h1, ix_nI (by omega), ← (hrows r hr).2] at z
    exact i_nlt.mpr (i_tr z hs)
  intro n
  induction n with
  | zero =>
    intro M l hl hM hpw hmem hch
    have : l = [] := List.length_eq_zero_iff.mp (by omega)
    subst this
    rw [hnil M hM (fun a ha z y => by cases (hmem a).mpr ⟨ha, z, y⟩)]
    rfl
  | succ n ih =>
    intro M l hl hM hpw hmem hch
    unfold seenL
    rcases List.eq_nil_or_concat l with e | ⟨l', a, e⟩
    · subst e
      rw [hnil M hM (fun a ha z y => by cases (hmem a).mpr ⟨ha, z, y⟩)]
      exact if_pos (by decide)
    · rw [List.concat_eq_append] at e
      subst e
      obtain ⟨haP, ha1, haM⟩ := (hmem a).mp (by simp)
      have ha24 : a.1 < 24 := hS.2.2.1 a.1 (List.mem_map.mpr ⟨a, haP, rfl⟩)
      have hlt : ltI ((l' ++ [a]).map Prod.fst) = nI a.1 := by
        rw [List.map_append]
        exact ltI_app _ _
      obtain ⟨p1, -, p3⟩ := List.pairwise_append.mp hpw
      have hl'a : ∀ b ∈ l', b.2 < a.2 := fun b hb => p3 b hb a (by simp)
      have hgap : ∀ c, a.2 < c → c < M → v 1 c = nI r → v 5 c < 0 := fun c q1 q2 q3 => by
        apply Classical.byContradiction
        intro q5
        by_cases q : ∃ b ∈ P, b.2 = c
        · obtain ⟨b, hb, eb⟩ := q
          have hbl := (hmem b).mpr ⟨hb, by rw [eb]; exact q3, by omega⟩
          rcases List.mem_append.mp hbl with z | z
          · have := hl'a b z
            omega
          · rw [List.mem_singleton.mp z] at eb
            omega
        · have := (hold c (by omega) q5 (fun b hb e => q ⟨b, hb, e⟩)).1 a haP
          omega
      obtain ⟨e3, e4, e15, e5, e16⟩ := hel a haP
      rw [hlt, if_neg (nI_pos (by omega)), ix_nI (by omega)]
      by_cases q : isAfterF u a.1 s = 0
      · rw [if_pos q]
        obtain ⟨q1, q2⟩ := (isAfter_iff h0 haP s).mp q
        rw [lastv_skip' (M := a.2 + 1) (by omega) (fun c z1 z2 z3 => hgap c (by omega) z2 z3), vals_skip' (M := a.2 + 1) (by omega) (fun c z1 z2 z3 => Or.inl (i_lt_le (hgap c (by omega) z2 z3))), lastv_s, vals_s, if_pos ⟨ha1, e5⟩, if_pos ⟨ha1, fun z => (i_le0 z).elim e5 q1, i_nlt.mpr q2⟩]
      · rw [if_neg q]
        have hc := hch l' a [] rfl
        rw [hc, e4, hbef a.2 (hPN a haP) e5, ha1, ih a.2 l' (by simp at hl; omega) (by omega) p1 (fun b => ?_) (fun l1 b l2 hl2 => hch l1 b (l2 ++ [a]) (by rw [hl2]; simp))]
        · refine (vals_skip' (by omega) (fun c z1 z2 z3 => ?_)).symm
          by_cases ec : c = a.2
          · rw [ec]
            by_cases q1 : v 5 a.2 = 0
            · rw [q1]; exact Or.inl (i_rf _)
            · refine Or.inr (Classical.byContradiction fun z => ?_)
              exact q ((isAfter_iff h0 haP s).mpr ⟨q1, i_nlt.mp z⟩)
          · exact Or.inl (i_lt_le (hgap c (by omega) z2 z3))
        · constructor
          · intro hb
            have := (hmem b).mp (List.mem_append_left _ hb)
            exact ⟨this.1, this.2.1, hl'a b hb⟩
          · rintro ⟨z1, z2, z3⟩
            rcases List.mem_append.mp ((hmem b).mpr ⟨z1, z2, by omega⟩) with z | z
            · exact z
            · rw [List.mem_singleton.mp z] at z3
              omega
theorem seen_rel {u v : Mem} {N : Nat} {P : List (Nat × Nat)} (h : LX u v N P) {r : Nat} (hr : r < 8) (s : Int32) : seenF u r s = if v 10 r ≤ s then valF v (nI r) s N 0 0 else -2000000000 := by
  have h0 := h
  obtain ⟨hS, hR, pw, hPN, hel, hinj, hop, hwho, hrow, hopen, hold, hbef, hrows, hsuf, hlk⟩ := h
  unfold seenF
  rw [(hrows r hr).2]
  by_cases q : v 10 r ≤ s
  · rw [if_pos q, if_pos q]
    have hRr := hR r hr
    rw [rowL_P (fun a ha => (hel a ha).1)] at hRr
    have hv := valF_vals v (nI r) s N 0
    rw [Nat.zero_add] at hv
    rw [(hrows r hr).1, hRr.1, show valF v (nI r) s N 0 0 = vals v (nI r) s N from hv]
    have hlen : P.length ≤ 24 := by
      have := nodup_le 24 _ hS.2.1 hS.2.2.1
      rwa [List.length_map] at this
    refine seen_chain h0 hr (by rw [(hrows r hr).2]; exact q) 24 N (rowP v P r) (Nat.le_trans (List.length_filter_le _ _) hlen) (Nat.le_refl _) (pw.filter _) (fun a => ?_) (fun l1 a l2 e => ?_)
    · unfold rowP
      rw [List.mem_filter]
      simp only [decide_eq_true_eq]
      exact ⟨fun z => ⟨z.1, z.2, hPN a z.1⟩, fun z => ⟨z.1, z.2.1⟩⟩
    · exact hRr.2 (l1.map Prod.fst) a.1 (l2.map Prod.fst) (by rw [e]; simp)
  · rw [if_neg q, if_neg q]
theorem read_rel {u v : Mem} {N : Nat} {P : List (Nat × Nat)} (hX : LX u v N P) (hM : LM v N P) (hE : EX u v P) (ht : u 17 0 = v 7 0) (x r s : Int32) : readF u x r s = mreadF v N x r s := by
  unfold readF mreadF
  by_cases hs : sessF x = 0
  · rw [if_pos hs, if_pos hs]
  rw [if_neg hs, if_neg hs]
  by_cases hr : rowF r = 0
  · rw [if_pos hr, if_pos hr]
  rw [if_neg hr, if_neg hr]
  obtain ⟨j, hj, rfl⟩ := sess_of hs
  obtain ⟨ρ, hρ, rfl⟩ := row_of hr
  rw [ix_nI (by omega), ix_nI (by omega), ht, ← seen_rel hX hρ s]
  by_cases q1 : s < 0
  · rw [if_pos q1, if_pos q1]
  rw [if_neg q1, if_neg q1]
  by_cases q2 : s ≤ v 7 0
  · rw [if_pos q2, if_pos q2]
    rcases lock_rel hX hE hρ with ⟨z1, z2⟩ | ⟨y, hy, z1, z2, z3⟩
    · rw [z1, z2, if_pos (by decide), if_neg (fun z => neg4 hj z.symm)]
    · rw [z1, z2, if_neg z3]
      by_cases q : y = j
      · rw [q, if_pos rfl, if_pos rfl, (hX.2.2.2.2.2.2.2.2.2.2.2.2.1 ρ hρ).1, hM.2.2 ρ hρ]
      · rw [if_neg (fun z => q (hX.2.2.2.2.2.1 y hy j hj z3 z)), if_neg (fun z => q ((nI_eq (by omega) (by omega)).mp z))]
  · rw [if_neg q2, if_neg q2]
theorem raw_rel {u v : Mem} {N : Nat} {P : List (Nat × Nat)} (hX : LX u v N P) (hM : LM v N P) (r : Int32) : rawF u r = mrawF v r := by
  unfold rawF mrawF
  by_cases hr : rowF r = 0
  · rw [if_pos hr, if_pos hr]
  rw [if_neg hr, if_neg hr]
  obtain ⟨ρ, hρ, rfl⟩ := row_of hr
  rw [ix_nI (by omega), (hX.2.2.2.2.2.2.2.2.2.2.2.2.1 ρ hρ).1, hM.2.2 ρ hρ]
theorem oldest_rel {u v : Mem} {N : Nat} {P : List (Nat × Nat)} (hX : LX u v N P) (r : Int32) : oldestF u r = moldestF v r := by
  unfold oldestF moldestF
  by_cases hr : rowF r = 0
  · rw [if_pos hr, if_pos hr]
  rw [if_neg hr, if_neg hr]
  obtain ⟨ρ, hρ, rfl⟩ := row_of hr
  rw [ix_nI (by omega), (hX.2.2.2.2.2.2.2.2.2.2.2.2.1 ρ hρ).2]
theorem holdL_neg (u : Mem) {lock : Int32} (h : lock < 0) : ∀ n x : Nat, holdL u lock n x = -4
  | 0, _ => rfl
  | n + 1, x => by
    unfold holdL
    rw [if_pos h]
    exact holdL_neg u h n (x + 1)
theorem holdL_at (u : Mem) {lock : Int32} {y : Nat} (h : ¬ lock < 0) (hy : u 16 y = lock) (hinj : ∀ x, x < 4 → u 16 x = lock → x = y) : ∀ n x : Nat, n + x = 4 → x ≤ y → y < 4 → holdL u lock n x = nI y
  | 0, x, h1, h2, h3 => by omega
  | n + 1, x, h1, h2, h3 => by
    unfold holdL
    rw [if_neg h]
    by_cases q : u 16 x = lock
    · rw [if_pos q, hinj x (by omega) q]
    · rw [if_neg q]
      refine holdL_at u h hy hinj n (x + 1) (by omega) ?_ h3
      by_cases e : x = y
      · rw [e] at q
        exact absurd hy q
      · omega
theorem holder_rel {u v : Mem} {N : Nat} {P : List (Nat × Nat)} (hX : LX u v N P) (hE : EX u v P) (r : Int32) : holderF u r = mholderF v r := by
  unfold holderF mholderF
  by_cases hr : rowF r = 0
  · rw [if_pos hr, if_pos hr]
  rw [if_neg hr, if_neg hr]
  obtain ⟨ρ, hρ, rfl⟩ := row_of hr
  rw [ix_nI (by omega)]
  rcases lock_rel hX hE hρ with ⟨z1, z2⟩ | ⟨y, hy, z1, z2, z3⟩
  · rw [z1, z2]
    exact holdL_neg u (by decide) 4 0
  · rw [z1, z2]
    exact holdL_at u z3 rfl (fun x hx e => hX.2.2.2.2.2.1 x hx y hy (by rw [e]; exact z3) e) 4 0 rfl (Nat.zero_le _) hy
theorem locks_rel {u v : Mem} {N : Nat} {P : List (Nat × Nat)} (hX : LX u v N P) (hE : EX u v P) (x : Int32) : ∀ (n r : Nat) (set : Int32), n + r = 8 → lockL u x n r set = mlockL v x n r set
  | 0, _, _, _ => rfl
  | n + 1, r, set, h => by
    unfold lockL mlockL
    have e : lockStep u x r set = mlockStep v x r set := by
      unfold lockStep mlockStep
      by_cases hs : sessF x = 0
      · rw [if_pos hs, if_pos hs]
      rw [if_neg hs, if_neg hs]
      obtain ⟨j, hj, rfl⟩ := sess_of hs
      rw [ix_nI (by omega)]
      rcases lock_rel hX hE (r := r) (by omega) with ⟨z1, z2⟩ | ⟨y, hy, z1, z2, z3⟩
      · rw [z1, z2, if_pos (by decide), if_neg (fun z => neg4 hj z.symm)]
      · rw [z1, z2, if_neg z3]
        by_cases q : y = j
        · rw [q, if_pos rfl, if_pos rfl]
        · rw [if_neg (fun z => q (hX.2.2.2.2.2.1 y hy j hj z3 z)), if_neg (fun z => q ((nI_eq (by omega) (by omega)).mp z))]
    rw [e]
    exact locks_rel hX hE x n (r + 1) _ (by omega)
theorem chg_rel {u v : Mem} {N : Nat} {P : List (Nat × Nat)} (hX : LX u v N P) (hE : EX u v P) (x : Int32) : changesF u x = cntF v x N 0 0 := by
  unfold changesF
  by_cases hs : sessF x = 0
  · rw [if_pos hs, cntF_n v x hs]
  rw [if_neg hs]
  obtain ⟨j, hj, rfl⟩ := sess_of hs
  rw [ix_nI (by omega)]
  rcases changes_rel hX hE hj with ⟨z1, z2⟩ | ⟨z1, z2, -⟩
  · rw [if_pos z1, z2]
  · rw [if_neg z1, z2]
theorem chs_rel {u v : Mem} {N : Nat} {P : List (Nat × Nat)} (hX : LX u v N P) (ht : u 17 0 = v 7 0) {s : Int32} (hs : s ≤ u 17 0) : ∀ (n r : Nat) (set : Int32), n + r = 8 → chsL u s n r set = mchsL v N s n r set
  | 0, _, _, _ => rfl
  | n + 1, r, set, h => by
    unfold chsL mchsL
    have e : chsStep u s r set = mchsStep v N s r set := by
      unfold chsStep mchsStep
      rw [(hX.2.2.2.2.2.2.2.2.2.2.2.2.1 r (by omega)).2]
      by_cases q : s < v 10 r
      · rw [if_pos q, if_pos q, Int32.or_zero]
      · have q1 : v 10 r ≤ s := i_nlt.mp q
        rw [if_neg q, if_neg q, seen_rel hX (by omega), seen_rel hX (by omega), if_pos q1, if_pos (i_tr q1 hs), ht]
        by_cases q2 : valF v (nI r) s N 0 0 = valF v (nI r) (v 7 0) N 0 0
        · rw [if_pos q2, if_pos q2, Int32.or_zero]
        · rw [if_neg q2, if_neg q2]
    rw [e]
    exact chs_rel hX ht hs n (r + 1) _ (by omega)
theorem since_rel {u v : Mem} {N : Nat} {P : List (Nat × Nat)} (hX : LX u v N P) (ht : u 17 0 = v 7 0) (s : Int32) : chsF u s = mchsF v N s := by
  unfold chsF mchsF
  by_cases q : s < 0
  · rw [if_pos q, if_pos q]
  rw [if_neg q, if_neg q]
  by_cases q2 : s ≤ u 17 0
  · rw [if_pos q2, if_neg (by rw [← ht]; exact i_nlt.mpr q2)]
    exact chs_rel hX ht q2 8 0 0 rfl
  · rw [if_neg q2, if_pos]
    apply Classical.byContradiction
    intro z
    rw [← ht] at z
    exact q2 (i_nlt.mp z)
end
section
/-! ===== the invariant at the start; all operations keep it ===== -/
theorem iX1_o {k : Nat} (hk : k ≠ 1) : ∀ (n r : Nat) (u : Mem), iX1 n r u k = u k
  | 0, _, _ => rfl
  | n + 1, r, u => by
    unfold iX1
    rw [iX1_o hk n (r + 1), pk_ne hk]
theorem iX1_1 (i : Nat) : ∀ (n r : Nat) (u : Mem), iX1 n r u 1 i = if r ≤ i ∧ i < r + n then -1 else u 1 i
  | 0, r, u => by
    rw [if_neg (fun z => by omega)]
    rfl
  | n + 1, r, u => by
    unfold iX1
    rw [iX1_1 i n (r + 1), pk_i, b8_m1]
    by_cases e : i = r
    · rw [if_pos e, if_neg (fun z => by omega), if_pos (by omega)]
    · rw [if_neg e]
      by_cases q : r + 1 ≤ i ∧ i < r + 1 + n
      · rw [if_pos q, if_pos (by omega)]
      · rw [if_neg q, if_neg (fun z => q (by omega))]
theorem iX2_o {k : Nat} (hk : k ≠ 16) : ∀ (n r : Nat) (u : Mem), iX2 n r u k = u k
  | 0, _, _ => rfl
  | n + 1, r, u => by
    unfold iX2
    rw [iX2_o hk n (r + 1), pk_ne hk]
theorem iX2_16 (i : Nat) : ∀ (n r : Nat) (u : Mem), iX2 n r u 16 i = if r ≤ i ∧ i < r + n then -1 else u 16 i
  | 0, r, u => by
    rw [if_neg (fun z => by omega)]
    rfl
  | n + 1, r, u => by
    unfold iX2
    rw [iX2_16 i n (r + 1), pk_i, b8_m1]
    by_cases e : i = r
    · rw [if_pos e, if_neg (fun z => by omega), if_pos (by omega)]
    · rw [if_neg e]
      by_cases q : r + 1 ≤ i ∧ i < r + 1 + n
      · rw [if_pos q, if_pos (by omega)]
      · rw [if_neg q, if_neg (fun z => q (by omega))]
theorem iM1_o {k : Nat} (hk : k ≠ 9) : ∀ (n r : Nat) (u : Mem), iM1 n r u k = u k
  | 0, _, _ => rfl
  | n + 1, r, u => by
    unfold iM1
    rw [iM1_o hk n (r + 1), pk_ne hk]
theorem iM1_9 (i : Nat) : ∀ (n r : Nat) (u : Mem), iM1 n r u 9 i = if r ≤ i ∧ i < r + n then -4 else u 9 i
  | 0, r, u => by
    rw [if_neg (fun z => by omega)]
    rfl
  | n + 1, r, u => by
    unfold iM1
    rw [iM1_9 i n (r + 1), pk_i]
    by_cases e : i = r
    · rw [if_pos e, if_neg (fun z => by omega), if_pos (by omega)]
    · rw [if_neg e]
      by_cases q : r + 1 ≤ i ∧ i < r + 1 + n
      · rw [if_pos q, if_pos (by omega)]
      · rw [if_neg q, if_neg (fun z => q (by omega))]
theorem x0_1 (i : Nat) : u0X 1 i = if i < 8 then -1 else 0 := by
  unfold u0X
  rw [iX2_o (by omega), iX1_1, pk_ne (by omega), pk_ne (by omega)]
  by_cases q : i < 8
  · rw [if_pos q, if_pos (by omega)]
  · rw [if_neg q, if_neg (fun z => q (by omega))]
theorem x0_16 (i : Nat) : u0X 16 i = if i < 4 then -1 else 0 := by
  unfold u0X
  rw [iX2_16, iX1_o (by omega), pk_ne (by omega), pk_ne (by omega)]
  by_cases q : i < 4
  · rw [if_pos q, if_pos (by omega)]
  · rw [if_neg q, if_neg (fun z => q (by omega))]
theorem x0_10 (i : Nat) : u0X 10 i = if i = 0 then -1 else 0 := by
  unfold u0X
  rw [iX2_o (by omega), iX1_o (by omega), pk_ne (by omega), pk_i]
theorem x0_11 (i : Nat) : u0X 11 i = if i = 0 then -1 else 0 := by
  unfold u0X
  rw [iX2_o (by omega), iX1_o (by omega), pk_i, pk_ne (by omega)]
theorem x0_o {k : Nat} (h1 : k ≠ 1) (h2 : k ≠ 16) (h3 : k ≠ 10) (h4 : k ≠ 11) (i : Nat) : u0X k i = 0 := by
  unfold u0X
  rw [iX2_o h2, iX1_o h1, pk_ne h4, pk_ne h3]
theorem m0_9 {i : Nat} (hi : i < 8) : u0M 9 i = -4 := by
  unfold u0M
  rw [iM1_9, if_pos (by omega)]
theorem m0_o {k : Nat} (h1 : k ≠ 9) (i : Nat) : u0M k i = 0 := by
  unfold u0M
  rw [iM1_o h1]
theorem okN_0 {n : Nat} (h : 0 < n) : okN n 0 := Or.inr ⟨0, h, nI_0.symm⟩
theorem okP_0 {n : Nat} (h : 0 < n) : okP n 0 := ⟨0, h, nI_0.symm⟩
theorem WF_0 : WF u0X := by
  have key : ∀ (n : Nat) (p : Prop) [Decidable p], 0 < n → okN n (if p then (-1 : Int32) else 0) := fun n p _ h => by
    split
    · exact Or.inl rfl
    · exact okN_0 h
  intro k i
  unfold OKV
  split
  · rw [x0_1]; exact key _ _ (by decide)
  · rw [x0_o (by omega) (by omega) (by omega) (by omega)]; exact okP_0 (by decide)
  · rw [x0_o (by omega) (by omega) (by omega) (by omega)]; exact okP_0 (by decide)
  · rw [x0_o (by omega) (by omega) (by omega) (by omega)]; exact okN_0 (by decide)
  · rw [x0_o (by omega) (by omega) (by omega) (by omega)]; exact okN_0 (by decide)
  · rw [x0_o (by omega) (by omega) (by omega) (by omega)]; exact okN_0 (by decide)
  · rw [x0_10]; exact key _ _ (by decide)
  · rw [x0_11]; exact key _ _ (by decide)
  · rw [x0_16]; exact key _ _ (by decide)
  · trivial
theorem INV_0 : INV 0 u0X u0M := by
  have x16 : ∀ x, x < 4 → u0X 16 x = -1 := fun x hx => by rw [x0_16, if_pos hx]
  have neg16 : ∀ x, x < 4 → ¬ ¬ u0X 16 x < 0 := fun x hx z => z (by rw [x16 x hx]; decide)
  have nil : ∀ (a : Nat × Nat), a ∈ ([] : List (Nat × Nat)) → False := fun a h => by cases h
  have sl : SL0 u0X [] := by
    refine ⟨WF_0, List.nodup_nil, fun s hs => (by cases hs), fun s hs => ?_, ?_, ⟨?_, ?_, fun l1 s l2 e => (by simp at e)⟩, fun p hp => ?_, fun p hp => ?_⟩
    · rw [x0_o (by omega) (by omega) (by omega) (by omega), b_0]
      exact ⟨fun z => absurd z (by decide), fun z => by cases z⟩
    · rw [x0_o (by omega) (by omega) (by omega) (by omega)]
      exact nI_0.symm
    · rw [x0_10]; rfl
    · rw [x0_11]; rfl
    · rw [x0_o (by omega) (by omega) (by omega) (by omega)]
      exact nI_0.symm
    · rw [x0_o (by omega) (by omega) (by omega) (by omega), b_0]
      refine ⟨fun z => absurd z (by decide), fun z => ?_⟩
      rcases z with ⟨s, hs, -⟩ | ⟨x, hx, e⟩
      · cases hs
      · rw [x16 x hx] at e
        exact absurd e.symm (nIne (by omega))
  refine ⟨0, 0, [], ⟨sl, ?_, List.Pairwise.nil, fun a h => (nil a h).elim, fun a h => (nil a h).elim, fun x hx y hy h => absurd h (neg16 x hx), fun x hx h => absurd h (neg16 x hx), fun c hc => absurd hc (by omega), ?_, fun c hc => absurd hc (by omega), fun c hc => absurd hc (by omega), fun c hc => absurd hc (by omega), ?_, fun a h => (nil a h).elim, fun a h => (nil a h).elim⟩, ⟨?_, fun c hc => absurd hc (by omega), ?_⟩, ⟨fun x hx h => absurd h (neg16 x hx), fun r hr => Or.inl (m0_9 hr)⟩, ?_, ?_, Nat.le_refl _, Nat.le_refl _⟩
  · intro r hr
    rw [x0_1, if_pos hr]
    exact RC_nil
  · intro c
    rw [m0_o (by omega)]
    exact okP_0 (by decide)
  · intro r hr
    rw [x0_o (by omega) (by omega) (by omega) (by omega), x0_o (by omega) (by omega) (by omega) (by omega), m0_o (by omega)]
    exact ⟨rfl, rfl⟩
  · rw [m0_o (by omega)]; exact nI_0.symm
  · intro r hr
    rw [m0_o (by omega)]; rfl
  · rw [x0_o (by omega) (by omega) (by omega) (by omega)]; exact nI_0.symm
  · rw [m0_o (by omega)]; exact nI_0.symm
theorem ops_ok : OpsOK INV := by
  refine ⟨fun k u v h => ?_, fun k u v h => INV_mono h, fun k u v N x r w h hk hN hNk => INV_change x r w h hk hN hNk, fun k u v N x h hk hN hNk => INV_commit x h hk hN hNk, fun k u v N x h hk hN hNk => INV_roll x h hk hN hNk, fun k u v N h hk hN hNk => ?_⟩
  · obtain ⟨N, t, P, hX, hM, hE, h17, h7, ht, hN⟩ := h
    refine ⟨hX.1.1, fun z => ?_, hX.2.2.2.2.2.2.2.2.1, N, hM.1, hN⟩
    have ecnt := (rem_rel hX hM).2
    have hlen : P.length ≤ 24 := by
      have := nodup_le 24 _ hX.1.2.1 hX.1.2.2.1
      rwa [List.length_map] at this
    rw [ecnt, nI_eq (by omega) (by omega)] at z
    rw [show u 10 0 = hdI (P.map Prod.fst) from hX.1.2.2.2.2.2.1.1, hdI_neg hX.1.2.2.1]
    intro e
    have : P = [] := List.map_eq_nil_iff.mp e
    rw [this] at z
    simp at z
  · obtain ⟨N1, t, P, hX, hM, hE, h17, h7, ht, hN1⟩ := h
    have eN : N1 = N := (nI_eq (by omega) (by omega)).mp (hM.1.symm.trans hN)
    subst eN
    have et : u 17 0 = v 7 0 := by rw [h17, h7]
    obtain ⟨erem, ecnt⟩ := rem_rel hX hM
    exact ⟨et, by rw [erem, ecnt], read_rel hX hM hE et, raw_rel hX hM, holder_rel hX hE, fun x => locks_rel hX hE x 8 0 0 rfl, chg_rel hX hE, oldest_rel hX, since_rel hX et⟩
end
section
/-- YOUR PART: from the entry, for every script of at most 256 ints, the law comes to its end with true -/
theorem whole_start {p : Program} {e : Env} {s : State} {m : MethodId} {below : List Frame} {meth : Method} {c : Code} (l : Launch) {b L : Nat} {xs : Nat → Int32} (hL : L ≤ 256) (C0 : lw_At p s m meth c b L xs) : W p l e room_1 s m #[Value.ref b] below meth c s.heap [] 0 0 (lw_Z below #[Value.ref b] s) (entryFrame m ([Value.ref b] : List Value).toArray 4) := by
  exact whole_of ops_ok INV_0 l hL C0
set_option maxHeartbeats 4000000 in
theorem lw_walk (l : Launch) (b : Addr) (xs : List Int32) : MetFree l x (headSpec (Jvm.Cond.code x code maxLocals ret :: tables_1) room_1) (lw_P b xs) (fun _ _ _ _ _ => True) lw_Q := by
  refine MetFree.of_bodyS (code := code) (maxLocals := maxLocals) (ret := ret) (by decide) ?_ ?_
  · intro args s m h hn
    obtain ⟨meth, c, h1, h2, h3, h4, h5, h6, -, -⟩ := Cond.code_spec hn (atoms_spec (ws := Jvm.Cond.code x code maxLocals ret :: tables_1) h _ List.mem_cons_self)
    exact ⟨meth, c, h1, h2, h3, h4, h5, h6⟩
  · intro p e s m args below meth c s₁ B hml0 hP _
    obtain ⟨rfl, hx, hbd, hgv⟩ := hP
    obtain ⟨scr, harrAt, hlist, hof, hsmall⟩ := hx
    obtain ⟨hcb, hkn, -, -⟩ := State.arrayAt?_spec harrAt
    have hown : s.vm.findClass R_law = some m.cls := findClass_of_methodNamed B.named
    have hts0 : ∀ c ∈ (Jvm.Cond.code x code maxLocals ret :: tables_1), c.before #[Value.ref b] s = true := atoms_spec (ws := Jvm.Cond.code x code maxLocals ret :: tables_1) B.pre
    have hts : ∀ w ∈ lw_tbl, w.before #[Value.ref b] s = true := k2_hts_sels lw_privs (fun w hw => hts0 w (List.mem_cons_of_mem _ hw)) lw_privs_ok
    have hml : c.maxLocals = 4 := B.maxLocals_eq (hts0 _ List.mem_cons_self)
    have X₀ : Stand p l e room_1 s m #[Value.ref b] below meth c s₁ [] 0 0 := Stand.of_body B
    have hh0 : s₁.heap = s.heap := by rw [B.state]; rfl
    have hsz : scr.slots.size = xs.length := by rw [← Array.length_toList, hlist, List.length_map]
    have hval : ∀ j : Nat, j < xs.length → scr.slots[j]? = some (.int (xs.getD j 0)) := fun j hj => by
      rw [← Array.getElem?_toList, hlist]
      simp [hj]
    have hbl : b < s.heap.size := (Array.getElem?_eq_some_iff.mp hcb).1
    have hX : va_X b xs.length (fun j => xs.getD j 0) s s.heap := ⟨scr, hcb, hof, hkn, hsz, hval⟩
    have K : W p l e room_1 s m #[Value.ref b] below meth c s₁.heap [] 0 0 (lw_Z below #[Value.ref b] s) (entryFrame m ([Value.ref b] : List Value).toArray 4) := by
      rw [hh0]
      exact whole_start l hbd ⟨B.exec, B.bytes, B.returns, hml, hown, hts, hX, hbl, B.notSynchronized, hgv⟩
    obtain ⟨t, a1, o, b1, b2, b3⟩ := K s₁ rfl X₀
    exact ⟨t, o, a1, b1, b2, b3⟩
theorem lw_pre_spec {args : Array Value} {s : State} (h : (Jvm.Cond.and given_1 narrow_1).before args s = true) (hr : rest_1_c.before args s = true) : ∃ (b : Addr) (xs : List Int32), lw_P b xs args s := by
  have hs := flat_of_before _ h
  have hq := flat_of_before _ hr
  have hc : (Cond.count 1).before args s = true := hs _ (by decide +kernel)
  have harr : (Cond.arrayOf (.arg 0) .int).before args s = true := hs _ (by decide +kernel)
  have hle : (Cond.le (.length (.arg 0)) (.int 256)).before args s = true := hs _ (by decide +kernel)
  have hlen : (Cond.isInt (.length (.arg 0))).before args s = true := hq _ (by decide +kernel)
  have hall : (Cond.all (.arg 0) (.isInt (.elem (.arg 0) (.index 0)))).before args s = true := hq _ (by decide +kernel)
  obtain ⟨b, xs, hb, hx⟩ := State.ints_of_pre rfl harr hlen hall
  have hsm : xs.length < 2 ^ 31 := hx.choose_spec.2.2.2
  have hev : (Term.length (.arg 0)).eval args s none [] s = some (.int xs.length.toInt32) := hx.length_eval hb
  have hv := Cond.le_ints hev (show (Term.int 256).eval args s none [] s = some (.int 256) from rfl)
  have hd : xs.length.toInt32 ≤ 256 := by
    simpa [Cond.before, Cond.holds, hv] using hle
  have hN : xs.length ≤ 256 := (Int32.ofNat_le_ofNat hsm (by decide)).mp (show Int32.ofNat xs.length ≤ Int32.ofNat 256 from hd)
  exact ⟨b, xs, Cond.one_arg hc (show args[0]? = some (.ref b) from hb), hx, hN, h⟩
theorem lw_comes (l : Launch) : Comes l x (Jvm.Cond.code x code maxLocals ret :: tables_1) room_1 (fun tb e args s => Calls_1 tb e args s ∧ rest_1 tb e args s ∧ Pre_1 tb e args s)
    (fun _ _ args s o t => lw_Q args s o t) := by
  intro p e ha hc hk s m args below hf hfit hheap happ hpre
  obtain ⟨b, xs, hP⟩ := lw_pre_spec hpre.2.2 hpre.2.1
  obtain ⟨k, o, h1, h2, h3, hQ⟩ := lw_walk l b xs p e ha hc hk s m args below hf ((Spec.applies_iff_loose hf).mp happ).1 hP trivial
  exact ⟨k, o, h1, h2, h3, hQ⟩
theorem lw_frame {s t : State} {o : Outcome} {args : Array Value} (h : Framed s o t [] 600000 7290000) :
    Framed s o t (fieldLocs frame_1_writes args s ++ arrayLocs frame_1_arrays args s ++ staticLocs frame_1_statics s) 600000 7290000 := h
theorem lw_limb (L : Cond) (hL : ∀ (args : Array Value) (s t : State), L.after args s (.returned (some (.int 1))) t = true) :
    ArmFor flags0 classFile x code maxLocals ret World_1 tables_1 room_1 Calls_1 rest_1 Pre_1
      (fun tb e a s o t => postC L tb e a s o t ∧ Framed s o t (fieldLocs frame_1_writes a s ++ arrayLocs frame_1_arrays a s ++ staticLocs frame_1_statics s) 600000 7290000) := by
  intro l _ _ _ p e ha hc hk s m args below hf hfit hheap happ hpre
  obtain ⟨k, o, h1, h2, h3, rfl, hF⟩ := lw_comes l p e ha hc hk s m args below hf hfit hheap happ hpre
  exact ⟨k, _, h1, h2, h3, hL args s _, lw_frame hF⟩
theorem i_vc : Claimed_1_1 ∧ Claimed_1_2 := ⟨lw_limb limb_1_1 (fun args s t => by simp [limb_1_1, Cond.after, Cond.holds, Cond.value]), lw_limb limb_1_2 (fun args s t => Cond.after_iff.mpr (by
  first | (rw [show limb_1_2 = Cond.eq .result (.int 1) from rfl, Cond.eq_ints (x := 1) (y := 1) rfl rfl]; simp; done) | (simp [limb_1_2, Cond.value, Term.eval]; done)))⟩
end
