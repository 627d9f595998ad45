section
/-- a private method of a class that the tables say can be made, by its rows of tables_1 -/
def lw_okq (q : MethodName × Nat) : Prop := (q.1.cls ≠ "java/lang/invoke/MethodHandle" ∧ q.1.cls ≠ "java/lang/invoke/VarHandle") ∧ Cond.instantiable q.1.cls q.2 ∈ tables_1 ∧ Cond.privateMethod q.1 ∈ tables_1 ∧ Cond.instanceMethod q.1 ∈ tables_1
set_option maxRecDepth 100000
theorem lw_t1 {w : Cond} (h : w ∈ tables_1_1) : w ∈ tables_1 := List.mem_append_left _ h
theorem lw_t2 {w : Cond} (h : w ∈ tables_1_2) : w ∈ tables_1 := List.mem_append_right _ h
theorem lw_p0 : lw_okq (⟨"PhraseIndex", "read", "()V"⟩, 11) := ⟨⟨by decide +kernel, by decide +kernel⟩, lw_t1 (List.mem_of_getElem? (i := 4) rfl), lw_t1 (List.mem_of_getElem? (i := 75) rfl), lw_t1 (List.mem_of_getElem? (i := 76) rfl)⟩
theorem lw_p1 : lw_okq (⟨"PhraseIndex", "attach", "(I)V"⟩, 11) := ⟨⟨by decide +kernel, by decide +kernel⟩, lw_t1 (List.mem_of_getElem? (i := 4) rfl), lw_t1 (List.mem_of_getElem? (i := 79) rfl), lw_t1 (List.mem_of_getElem? (i := 80) rfl)⟩
theorem lw_p2 : lw_okq (⟨"PhraseIndex", "work", "(I)Z"⟩, 11) := ⟨⟨by decide +kernel, by decide +kernel⟩, lw_t1 (List.mem_of_getElem? (i := 4) rfl), lw_t1 (List.mem_of_getElem? (i := 104) rfl), lw_t1 (List.mem_of_getElem? (i := 105) rfl)⟩
theorem lw_p3 : lw_okq (⟨"PhraseIndex", "word", "(II)V"⟩, 11) := ⟨⟨by decide +kernel, by decide +kernel⟩, lw_t1 (List.mem_of_getElem? (i := 4) rfl), lw_t1 (List.mem_of_getElem? (i := 109) rfl), lw_t1 (List.mem_of_getElem? (i := 110) rfl)⟩
theorem lw_p4 : lw_okq (⟨"PhraseIndex", "combine", "(II)V"⟩, 11) := ⟨⟨by decide +kernel, by decide +kernel⟩, lw_t1 (List.mem_of_getElem? (i := 4) rfl), lw_t1 (List.mem_of_getElem? (i := 113) rfl), lw_t1 (List.mem_of_getElem? (i := 114) rfl)⟩
theorem lw_p5 : lw_okq (⟨"PhraseIndex", "goOn", "(III)I"⟩, 11) := ⟨⟨by decide +kernel, by decide +kernel⟩, lw_t1 (List.mem_of_getElem? (i := 4) rfl), lw_t1 (List.mem_of_getElem? (i := 123) rfl), lw_t1 (List.mem_of_getElem? (i := 124) rfl)⟩
theorem lw_p6 : lw_okq (⟨"PhraseIndex", "condition", "(II)Z"⟩, 11) := ⟨⟨by decide +kernel, by decide +kernel⟩, lw_t1 (List.mem_of_getElem? (i := 4) rfl), lw_t1 (List.mem_of_getElem? (i := 127) rfl), lw_t1 (List.mem_of_getElem? (i := 128) rfl)⟩
theorem lw_p7 : lw_okq (⟨"PhraseIndex", "firstBegin", "(II)I"⟩, 11) := ⟨⟨by decide +kernel, by decide +kernel⟩, lw_t1 (List.mem_of_getElem? (i := 4) rfl), lw_t1 (List.mem_of_getElem? (i := 131) rfl), lw_t1 (List.mem_of_getElem? (i := 132) rfl)⟩
theorem lw_p8 : lw_okq (⟨"PhraseIndex", "spanOf", "(II)I"⟩, 11) := ⟨⟨by decide +kernel, by decide +kernel⟩, lw_t1 (List.mem_of_getElem? (i := 4) rfl), lw_t1 (List.mem_of_getElem? (i := 144) rfl), lw_t1 (List.mem_of_getElem? (i := 145) rfl)⟩
theorem lw_p9 : lw_okq (⟨"PhraseIndexModel", "document", "(I)Z"⟩, 7) := ⟨⟨by decide +kernel, by decide +kernel⟩, lw_t1 (List.mem_of_getElem? (i := 171) rfl), lw_t1 (List.mem_of_getElem? (i := 203) rfl), lw_t1 (List.mem_of_getElem? (i := 204) rfl)⟩
theorem lw_p10 : lw_okq (⟨"PhraseIndexModel", "due", "()I"⟩, 7) := ⟨⟨by decide +kernel, by decide +kernel⟩, lw_t1 (List.mem_of_getElem? (i := 171) rfl), lw_t1 (List.mem_of_getElem? (i := 223) rfl), lw_t1 (List.mem_of_getElem? (i := 224) rfl)⟩
theorem lw_p11 : lw_okq (⟨"PhraseIndexModel", "parts", "(I)I"⟩, 7) := ⟨⟨by decide +kernel, by decide +kernel⟩, lw_t1 (List.mem_of_getElem? (i := 171) rfl), lw_t1 (List.mem_of_getElem? (i := 227) rfl), lw_t1 (List.mem_of_getElem? (i := 228) rfl)⟩
theorem lw_p12 : lw_okq (⟨"PhraseIndexModel", "work", "(I)V"⟩, 7) := ⟨⟨by decide +kernel, by decide +kernel⟩, lw_t1 (List.mem_of_getElem? (i := 171) rfl), lw_t2 (List.mem_of_getElem? (i := 4) rfl), lw_t2 (List.mem_of_getElem? (i := 5) rfl)⟩
theorem lw_p13 : lw_okq (⟨"PhraseIndexModel", "some", "(I)Z"⟩, 7) := ⟨⟨by decide +kernel, by decide +kernel⟩, lw_t1 (List.mem_of_getElem? (i := 171) rfl), lw_t2 (List.mem_of_getElem? (i := 8) rfl), lw_t2 (List.mem_of_getElem? (i := 9) rfl)⟩
theorem lw_p14 : lw_okq (⟨"PhraseIndexModel", "spansAt", "(IIIII)I"⟩, 7) := ⟨⟨by decide +kernel, by decide +kernel⟩, lw_t1 (List.mem_of_getElem? (i := 171) rfl), lw_t2 (List.mem_of_getElem? (i := 12) rfl), lw_t2 (List.mem_of_getElem? (i := 13) rfl)⟩
theorem lw_p15 : lw_okq (⟨"PhraseIndexModel", "within", "(II)I"⟩, 7) := ⟨⟨by decide +kernel, by decide +kernel⟩, lw_t1 (List.mem_of_getElem? (i := 171) rfl), lw_t2 (List.mem_of_getElem? (i := 16) rfl), lw_t2 (List.mem_of_getElem? (i := 17) rfl)⟩
def lw_privs_1 : List (MethodName × Nat) := [(⟨"PhraseIndex", "read", "()V"⟩, 11), (⟨"PhraseIndex", "attach", "(I)V"⟩, 11), (⟨"PhraseIndex", "work", "(I)Z"⟩, 11), (⟨"PhraseIndex", "word", "(II)V"⟩, 11), (⟨"PhraseIndex", "combine", "(II)V"⟩, 11), (⟨"PhraseIndex", "goOn", "(III)I"⟩, 11), (⟨"PhraseIndex", "condition", "(II)Z"⟩, 11), (⟨"PhraseIndex", "firstBegin", "(II)I"⟩, 11), (⟨"PhraseIndex", "spanOf", "(II)I"⟩, 11), (⟨"PhraseIndexModel", "document", "(I)Z"⟩, 7), (⟨"PhraseIndexModel", "due", "()I"⟩, 7), (⟨"PhraseIndexModel", "parts", "(I)I"⟩, 7), (⟨"PhraseIndexModel", "work", "(I)V"⟩, 7), (⟨"PhraseIndexModel", "some", "(I)Z"⟩, 7), (⟨"PhraseIndexModel", "spansAt", "(IIIII)I"⟩, 7), (⟨"PhraseIndexModel", "within", "(II)I"⟩, 7)]
theorem lw_r1 : ∀ q ∈ lw_privs_1, lw_okq q := List.forall_mem_cons.mpr ⟨lw_p0, List.forall_mem_cons.mpr ⟨lw_p1, List.forall_mem_cons.mpr ⟨lw_p2, List.forall_mem_cons.mpr ⟨lw_p3, List.forall_mem_cons.mpr ⟨lw_p4, List.forall_mem_cons.mpr ⟨lw_p5, List.forall_mem_cons.mpr ⟨lw_p6, List.forall_mem_cons.mpr ⟨lw_p7, List.forall_mem_cons.mpr ⟨lw_p8, List.forall_mem_cons.mpr ⟨lw_p9, List.forall_mem_cons.mpr ⟨lw_p10, List.forall_mem_cons.mpr ⟨lw_p11, List.forall_mem_cons.mpr ⟨lw_p12, List.forall_mem_cons.mpr ⟨lw_p13, List.forall_mem_cons.mpr ⟨lw_p14, List.forall_mem_cons.mpr ⟨lw_p15, fun _ h => absurd h List.not_mem_nil⟩⟩⟩⟩⟩⟩⟩⟩⟩⟩⟩⟩⟩⟩⟩⟩
theorem lw_p16 : lw_okq (⟨"PhraseIndexModel", "then", "(III)I"⟩, 7) := ⟨⟨by decide +kernel, by decide +kernel⟩, lw_t1 (List.mem_of_getElem? (i := 171) rfl), lw_t2 (List.mem_of_getElem? (i := 20) rfl), lw_t2 (List.mem_of_getElem? (i := 21) rfl)⟩
theorem lw_p17 : lw_okq (⟨"PhraseIndexModel", "find", "(II)I"⟩, 7) := ⟨⟨by decide +kernel, by decide +kernel⟩, lw_t1 (List.mem_of_getElem? (i := 171) rfl), lw_t2 (List.mem_of_getElem? (i := 33) rfl), lw_t2 (List.mem_of_getElem? (i := 34) rfl)⟩
def lw_privs_2 : List (MethodName × Nat) := [(⟨"PhraseIndexModel", "then", "(III)I"⟩, 7), (⟨"PhraseIndexModel", "find", "(II)I"⟩, 7)]
theorem lw_r2 : ∀ q ∈ lw_privs_2, lw_okq q := List.forall_mem_cons.mpr ⟨lw_p16, List.forall_mem_cons.mpr ⟨lw_p17, fun _ h => absurd h List.not_mem_nil⟩⟩
def lw_privs : List (MethodName × Nat) := lw_privs_1 ++ (lw_privs_2)
def lw_tbl : List Cond := k2_sels lw_privs ++ tables_1
theorem lw_privs_ok : ∀ q ∈ lw_privs, lw_okq q := by
  show ∀ q ∈ lw_privs_1 ++ (lw_privs_2), lw_okq q
  exact List.forall_mem_append.mpr ⟨lw_r1, lw_r2⟩
-- ===== ONE list of words for every method: the tables' words that hold all through a run =====
def lw_all : List Cond := lw_tbl.filter goodWord
/-- a word of the tables by its place: claim/WORDS.tsv -/
theorem lw_w {w : Cond} (i : Nat) (h : lw_tbl[i]? = some w) (g : goodWord w = true) : w ∈ lw_all := List.mem_filter.mpr ⟨List.mem_of_getElem? h, g⟩
theorem lw_all_tbl {w : Cond} (h : w ∈ lw_all) : w ∈ lw_tbl := (List.mem_filter.mp h).1
theorem lw_self : GoodIn lw_all lw_all := fun w h => ⟨h, good_of_word (List.mem_filter.mp h).2⟩
/-- a class's field words, by their places -/
theorem lw_in (ws : List Cond) (ps : List Nat) (hp : ws = ps.filterMap (fun i => lw_tbl[i]?)) (hg : ws.all goodWord = true) : ∀ w ∈ ws, w ∈ lw_all := by
  intro w h
  have h1 := List.all_eq_true.mp hg w h
  rw [hp] at h
  obtain ⟨i, -, hi⟩ := List.mem_filterMap.mp h
  exact lw_w i hi h1
/-- the words of a contract for the method y with code b, L locals, answer r -/
abbrev ws_ (y : MethodName) (b : ByteArray) (L : Nat) (r : Option FieldType) : List Cond := Cond.code y b L r :: lw_all
theorem lw_meth {y : MethodName} {b : ByteArray} {L : Nat} {r : Option FieldType} (h : Cond.code y b L r ∈ lw_all) : GoodIn lw_all (ws_ y b L r) := by
  intro w hw
  rcases List.mem_cons.mp hw with e | e
  · rw [e]
    exact lw_self _ h
  · exact lw_self _ e
theorem lw_app {a c : List Cond} (ha : ∀ w ∈ a, w ∈ lw_all) (hc : GoodIn lw_all c) : GoodIn lw_all (a ++ c) := by
  intro w hw
  rcases List.mem_append.mp hw with e | e
  · exact lw_self w (ha w e)
  · exact hc w e
/-- what a call through an object asks: cwV n hts (lw_V ..) -/
theorem lw_V {own : String} {idx : Nat} {C : String} {y : MethodName} {b : ByteArray} {L : Nat} {r : Option FieldType} (h1 : Cond.methodLink own idx y ∈ lw_all) (h2 : Cond.instanceMethod y ∈ lw_all) (h3 : Cond.selects C y y ∈ lw_all) (h4 : Cond.initialized C ∈ lw_all) (h5 : Cond.code y b L r ∈ lw_all) : GoodIn lw_all (wsV own idx C y (ws_ y b L r)) := by
  refine lw_app ?_ (lw_meth h5)
  intro w hw
  simp only [List.mem_cons, List.not_mem_nil, or_false] at hw
  rcases hw with e | e | e | e
  · rw [e]; exact h1
  · rw [e]; exact h2
  · rw [e]; exact h3
  · rw [e]; exact h4
/-- what a static call asks: va_cwS n hts (lw_S ..) -/
theorem lw_S {own : String} {idx : Nat} {y : MethodName} {b : ByteArray} {L : Nat} {r : Option FieldType} (h1 : Cond.methodLink own idx y ∈ lw_all) (h2 : Cond.static y ∈ lw_all) (h3 : Cond.initialized y.cls ∈ lw_all) (h4 : Cond.code y b L r ∈ lw_all) : GoodIn lw_all (va_wsS own idx y (ws_ y b L r)) := by
  refine lw_app ?_ (lw_meth h4)
  intro w hw
  simp only [List.mem_cons, List.not_mem_nil, or_false] at hw
  rcases hw with e | e | e
  · rw [e]; exact h1
  · rw [e]; exact h2
  · rw [e]; exact h3
/-- the words of a contract for a method WITH HANDLERS (hh: its table) -/
abbrev wsW_ (y : MethodName) (b : ByteArray) (L : Nat) (r : Option FieldType) (hh : List (Nat × Nat × Nat × Nat)) : List Cond := Cond.codeWith y b L r hh :: lw_all
theorem lw_methW {y : MethodName} {b : ByteArray} {L : Nat} {r : Option FieldType} {hh : List (Nat × Nat × Nat × Nat)} (h : Cond.codeWith y b L r hh ∈ lw_all) : GoodIn lw_all (wsW_ y b L r hh) := by
  intro w hw
  rcases List.mem_cons.mp hw with e | e
  · rw [e]
    exact lw_self _ h
  · exact lw_self _ e
/-- any list of words by their places (lw_in), good -/
theorem lw_good {ws : List Cond} (h : ∀ w ∈ ws, w ∈ lw_all) : GoodIn lw_all ws := fun w hw => lw_self w (h w hw)
/-- what a call of a method with handlers asks: vx_cwVW n hts (lw_VW ..), vx_cwSW n hts (lw_SW ..) -/
theorem lw_VW {own : String} {idx : Nat} {C : String} {y : MethodName} {b : ByteArray} {L : Nat} {r : Option FieldType} {hh : List (Nat × Nat × Nat × Nat)} (h1 : Cond.methodLink own idx y ∈ lw_all) (h2 : Cond.instanceMethod y ∈ lw_all) (h3 : Cond.selects C y y ∈ lw_all) (h4 : Cond.initialized C ∈ lw_all) (h5 : Cond.codeWith y b L r hh ∈ lw_all) : GoodIn lw_all (wsV own idx C y (wsW_ y b L r hh)) := by
  refine lw_app ?_ (lw_methW h5)
  intro w hw
  simp only [List.mem_cons, List.not_mem_nil, or_false] at hw
  rcases hw with e | e | e | e
  · rw [e]; exact h1
  · rw [e]; exact h2
  · rw [e]; exact h3
  · rw [e]; exact h4
theorem lw_SW {own : String} {idx : Nat} {y : MethodName} {b : ByteArray} {L : Nat} {r : Option FieldType} {hh : List (Nat × Nat × Nat × Nat)} (h1 : Cond.methodLink own idx y ∈ lw_all) (h2 : Cond.static y ∈ lw_all) (h3 : Cond.initialized y.cls ∈ lw_all) (h4 : Cond.codeWith y b L r hh ∈ lw_all) : GoodIn lw_all (va_wsS own idx y (wsW_ y b L r hh)) := by
  refine lw_app ?_ (lw_methW h4)
  intro w hw
  simp only [List.mem_cons, List.not_mem_nil, or_false] at hw
  rcases hw with e | e | e
  · rw [e]; exact h1
  · rw [e]; exact h2
  · rw [e]; exact h3
/-- a word by its place in its run of the tables -/
theorem lw_at {r : List Cond} (hr : ∀ w ∈ r, w ∈ lw_tbl) {w : Cond} (i : Nat) (h : r[i]? = some w) : w ∈ lw_tbl := hr w (List.mem_of_getElem? h)
theorem lw_g {w : Cond} (h : w ∈ lw_tbl) (g : goodWord w = true) : w ∈ lw_all := List.mem_filter.mpr ⟨h, g⟩
theorem lw_ms : ∀ w ∈ k2_sels lw_privs, w ∈ lw_tbl := fun w h => show w ∈ k2_sels lw_privs ++ tables_1 from List.mem_append_left _ h
theorem lw_m1 : ∀ w ∈ tables_1_1, w ∈ lw_tbl := fun w h => show w ∈ k2_sels lw_privs ++ tables_1 from List.mem_append_right (k2_sels lw_privs) (show w ∈ tables_1 from List.mem_append_left _ h)
theorem lw_m2 : ∀ w ∈ tables_1_2, w ∈ lw_tbl := fun w h => show w ∈ k2_sels lw_privs ++ tables_1 from List.mem_append_right (k2_sels lw_privs) (show w ∈ tables_1 from List.mem_append_right _ h)
theorem qs0 : (Cond.selects "PhraseIndex" ⟨"PhraseIndex", "read", "()V"⟩ ⟨"PhraseIndex", "read", "()V"⟩) ∈ lw_all := lw_g (lw_at lw_ms 0 rfl) rfl
theorem qs1 : (Cond.selects "PhraseIndex" ⟨"PhraseIndex", "attach", "(I)V"⟩ ⟨"PhraseIndex", "attach", "(I)V"⟩) ∈ lw_all := lw_g (lw_at lw_ms 1 rfl) rfl
theorem qs2 : (Cond.selects "PhraseIndex" ⟨"PhraseIndex", "work", "(I)Z"⟩ ⟨"PhraseIndex", "work", "(I)Z"⟩) ∈ lw_all := lw_g (lw_at lw_ms 2 rfl) rfl
theorem qs3 : (Cond.selects "PhraseIndex" ⟨"PhraseIndex", "word", "(II)V"⟩ ⟨"PhraseIndex", "word", "(II)V"⟩) ∈ lw_all := lw_g (lw_at lw_ms 3 rfl) rfl
theorem qs4 : (Cond.selects "PhraseIndex" ⟨"PhraseIndex", "combine", "(II)V"⟩ ⟨"PhraseIndex", "combine", "(II)V"⟩) ∈ lw_all := lw_g (lw_at lw_ms 4 rfl) rfl
theorem qs5 : (Cond.selects "PhraseIndex" ⟨"PhraseIndex", "goOn", "(III)I"⟩ ⟨"PhraseIndex", "goOn", "(III)I"⟩) ∈ lw_all := lw_g (lw_at lw_ms 5 rfl) rfl
theorem qs6 : (Cond.selects "PhraseIndex" ⟨"PhraseIndex", "condition", "(II)Z"⟩ ⟨"PhraseIndex", "condition", "(II)Z"⟩) ∈ lw_all := lw_g (lw_at lw_ms 6 rfl) rfl
theorem qs7 : (Cond.selects "PhraseIndex" ⟨"PhraseIndex", "firstBegin", "(II)I"⟩ ⟨"PhraseIndex", "firstBegin", "(II)I"⟩) ∈ lw_all := lw_g (lw_at lw_ms 7 rfl) rfl
theorem qs8 : (Cond.selects "PhraseIndex" ⟨"PhraseIndex", "spanOf", "(II)I"⟩ ⟨"PhraseIndex", "spanOf", "(II)I"⟩) ∈ lw_all := lw_g (lw_at lw_ms 8 rfl) rfl
theorem qs9 : (Cond.selects "PhraseIndexModel" ⟨"PhraseIndexModel", "document", "(I)Z"⟩ ⟨"PhraseIndexModel", "document", "(I)Z"⟩) ∈ lw_all := lw_g (lw_at lw_ms 9 rfl) rfl
theorem qs10 : (Cond.selects "PhraseIndexModel" ⟨"PhraseIndexModel", "due", "()I"⟩ ⟨"PhraseIndexModel", "due", "()I"⟩) ∈ lw_all := lw_g (lw_at lw_ms 10 rfl) rfl
theorem qs11 : (Cond.selects "PhraseIndexModel" ⟨"PhraseIndexModel", "parts", "(I)I"⟩ ⟨"PhraseIndexModel", "parts", "(I)I"⟩) ∈ lw_all := lw_g (lw_at lw_ms 11 rfl) rfl
theorem qs12 : (Cond.selects "PhraseIndexModel" ⟨"PhraseIndexModel", "work", "(I)V"⟩ ⟨"PhraseIndexModel", "work", "(I)V"⟩) ∈ lw_all := lw_g (lw_at lw_ms 12 rfl) rfl
theorem qs13 : (Cond.selects "PhraseIndexModel" ⟨"PhraseIndexModel", "some", "(I)Z"⟩ ⟨"PhraseIndexModel", "some", "(I)Z"⟩) ∈ lw_all := lw_g (lw_at lw_ms 13 rfl) rfl
theorem qs14 : (Cond.selects "PhraseIndexModel" ⟨"PhraseIndexModel", "spansAt", "(IIIII)I"⟩ ⟨"PhraseIndexModel", "spansAt", "(IIIII)I"⟩) ∈ lw_all := lw_g (lw_at lw_ms 14 rfl) rfl
theorem qs15 : (Cond.selects "PhraseIndexModel" ⟨"PhraseIndexModel", "within", "(II)I"⟩ ⟨"PhraseIndexModel", "within", "(II)I"⟩) ∈ lw_all := lw_g (lw_at lw_ms 15 rfl) rfl
theorem qs16 : (Cond.selects "PhraseIndexModel" ⟨"PhraseIndexModel", "then", "(III)I"⟩ ⟨"PhraseIndexModel", "then", "(III)I"⟩) ∈ lw_all := lw_g (lw_at lw_ms 16 rfl) rfl
theorem qs17 : (Cond.selects "PhraseIndexModel" ⟨"PhraseIndexModel", "find", "(II)I"⟩ ⟨"PhraseIndexModel", "find", "(II)I"⟩) ∈ lw_all := lw_g (lw_at lw_ms 17 rfl) rfl
end
section
set_option maxRecDepth 100000
/-! java/lang/Object -/
def RJ0 : String := "java/lang/Object"
abbrev cJ0_init : ByteArray := object_method_1_code
def yJ0_init : MethodName := ⟨RJ0, "<init>", "()V"⟩
theorem q27 : (Jvm.Cond.instanceMethod ({ cls := "java/lang/Object", name := "<init>", desc := "()V" } : Jvm.MethodName)) ∈ lw_all := lw_g (lw_at lw_m1 9 rfl) rfl
theorem q28 : (Jvm.Cond.code ({ cls := "java/lang/Object", name := "<init>", desc := "()V" } : Jvm.MethodName) object_method_1_code (1 : Nat) (Option.none : Option Jvm.ClassFile.FieldType)) ∈ lw_all := lw_g (lw_at lw_m1 10 rfl) rfl
theorem q63 : (Jvm.Cond.arrayClass Jvm.ClassFile.FieldType.byte) ∈ lw_all := lw_g (lw_at lw_m1 45 rfl) rfl
theorem q64 : (Jvm.Cond.arrayClass Jvm.ClassFile.FieldType.int) ∈ lw_all := lw_g (lw_at lw_m1 46 rfl) rfl
theorem q65 : (Jvm.Cond.arrayClass Jvm.ClassFile.FieldType.boolean) ∈ lw_all := lw_g (lw_at lw_m1 47 rfl) rfl
/-! PhraseIndex -/
def RX0 : String := "PhraseIndex"
def TX0 : u_T := fun k => match k with
  | 0 => ("PhraseIndex", "sizes", "[B", true)
  | 1 => ("PhraseIndex", "text", "[B", true)
  | 2 => ("PhraseIndex", "posts", "[I", true)
  | 3 => ("PhraseIndex", "tokens", "[B", true)
  | 4 => ("PhraseIndex", "size", "I", false)
  | 5 => ("PhraseIndex", "second", "[B", true)
  | 6 => ("PhraseIndex", "openToken", "[B", true)
  | 7 => ("PhraseIndex", "openWant", "[B", true)
  | 8 => ("PhraseIndex", "openCount", "I", false)
  | 9 => ("PhraseIndex", "ends", "[I", true)
  | _ => ("PhraseIndex", "truth", "[Z", true)
def tyX0 : Nat → FieldType := fun k => match k with
  | 0 => .array .byte
  | 1 => .array .byte
  | 2 => .array .int
  | 3 => .array .byte
  | 4 => .int
  | 5 => .array .byte
  | 6 => .array .byte
  | 7 => .array .byte
  | 8 => .int
  | 9 => .array .int
  | _ => .array .boolean
abbrev wsX00 : List Cond := u_ws RX0 TX0 11
theorem nmX0 : ∀ a, a < 11 → ∀ b, b < 11 → a ≠ b → (TX0 a).2.1 ≠ (TX0 b).2.1 := by decide +kernel
theorem tyX0_ok : ∀ k, k < 11 → parseFieldDescriptor (TX0 k).2.2.1 = some (tyX0 k) := by decide +kernel
abbrev cX0_init : ByteArray := prog_1_method_1_code
def yX0_init : MethodName := ⟨RX0, "<init>", "()V"⟩
abbrev cX0_write : ByteArray := prog_1_method_4_code
def yX0_write : MethodName := ⟨RX0, "write", "(II)I"⟩
abbrev cX0_isDocument : ByteArray := prog_1_method_2_code
def yX0_isDocument : MethodName := ⟨RX0, "isDocument", "(I)Z"⟩
abbrev cX0_isWord : ByteArray := prog_1_method_3_code
def yX0_isWord : MethodName := ⟨RX0, "isWord", "(I)Z"⟩
abbrev cX0_change : ByteArray := prog_1_method_5_code
def yX0_change : MethodName := ⟨RX0, "change", "(III)Z"⟩
abbrev cX0_erase : ByteArray := prog_1_method_6_code
def yX0_erase : MethodName := ⟨RX0, "erase", "(I)Z"⟩
abbrev cX0_length : ByteArray := prog_1_method_7_code
def yX0_length : MethodName := ⟨RX0, "length", "(I)I"⟩
abbrev cX0_ask : ByteArray := prog_1_method_11_code
def yX0_ask : MethodName := ⟨RX0, "ask", "(I)I"⟩
abbrev cX0_read : ByteArray := prog_1_method_13_code
def yX0_read : MethodName := ⟨RX0, "read", "()V"⟩
abbrev cX0_attach : ByteArray := prog_1_method_14_code
def yX0_attach : MethodName := ⟨RX0, "attach", "(I)V"⟩
abbrev cX0_wants : ByteArray := prog_1_method_10_code
def yX0_wants : MethodName := ⟨RX0, "wants", "(I)I"⟩
abbrev cX0_isSpan : ByteArray := prog_1_method_9_code
def yX0_isSpan : MethodName := ⟨RX0, "isSpan", "(I)Z"⟩
abbrev cX0_isCondition : ByteArray := prog_1_method_8_code
def yX0_isCondition : MethodName := ⟨RX0, "isCondition", "(I)Z"⟩
abbrev cX0_unask : ByteArray := prog_1_method_12_code
def yX0_unask : MethodName := ⟨RX0, "unask", "()I"⟩
abbrev cX0_complete : ByteArray := prog_1_method_15_code
def yX0_complete : MethodName := ⟨RX0, "complete", "()Z"⟩
abbrev cX0_holds : ByteArray := prog_1_method_24_code
def yX0_holds : MethodName := ⟨RX0, "holds", "(I)Z"⟩
abbrev cX0_work : ByteArray := prog_1_method_16_code
def yX0_work : MethodName := ⟨RX0, "work", "(I)Z"⟩
abbrev cX0_word : ByteArray := prog_1_method_17_code
def yX0_word : MethodName := ⟨RX0, "word", "(II)V"⟩
abbrev cX0_combine : ByteArray := prog_1_method_18_code
def yX0_combine : MethodName := ⟨RX0, "combine", "(II)V"⟩
abbrev cX0_greatest : ByteArray := prog_1_method_20_code
def yX0_greatest : MethodName := ⟨RX0, "greatest", "(I)I"⟩
abbrev cX0_upTo : ByteArray := prog_1_method_21_code
def yX0_upTo : MethodName := ⟨RX0, "upTo", "(I)I"⟩
abbrev cX0_goOn : ByteArray := prog_1_method_19_code
def yX0_goOn : MethodName := ⟨RX0, "goOn", "(III)I"⟩
abbrev cX0_condition : ByteArray := prog_1_method_22_code
def yX0_condition : MethodName := ⟨RX0, "condition", "(II)Z"⟩
abbrev cX0_firstBegin : ByteArray := prog_1_method_23_code
def yX0_firstBegin : MethodName := ⟨RX0, "firstBegin", "(II)I"⟩
abbrev cX0_matching : ByteArray := prog_1_method_25_code
def yX0_matching : MethodName := ⟨RX0, "matching", "()I"⟩
abbrev cX0_spans : ByteArray := prog_1_method_27_code
def yX0_spans : MethodName := ⟨RX0, "spans", "(II)I"⟩
abbrev cX0_spanOf : ByteArray := prog_1_method_26_code
def yX0_spanOf : MethodName := ⟨RX0, "spanOf", "(II)I"⟩
abbrev cX0_ones : ByteArray := prog_1_method_28_code
def yX0_ones : MethodName := ⟨RX0, "ones", "(I)I"⟩
abbrev cX0_begins : ByteArray := prog_1_method_29_code
def yX0_begins : MethodName := ⟨RX0, "begins", "(III)I"⟩
abbrev cX0_ends : ByteArray := prog_1_method_30_code
def yX0_ends : MethodName := ⟨RX0, "ends", "(III)I"⟩
abbrev cX0_having : ByteArray := prog_1_method_31_code
def yX0_having : MethodName := ⟨RX0, "having", "(I)I"⟩
abbrev cX0_frequency : ByteArray := prog_1_method_32_code
def yX0_frequency : MethodName := ⟨RX0, "frequency", "(I)I"⟩
abbrev cX0_hasTokens : ByteArray := prog_1_method_33_code
def yX0_hasTokens : MethodName := ⟨RX0, "hasTokens", "()I"⟩
theorem q19 : (Jvm.Cond.initialized "PhraseIndex") ∈ lw_all := lw_g (lw_at lw_m1 1 rfl) rfl
theorem q22 : (Jvm.Cond.instantiable "PhraseIndex" (11 : Nat)) ∈ lw_all := lw_g (lw_at lw_m1 4 rfl) rfl
theorem q24 : (Jvm.Cond.instanceMethod ({ cls := "PhraseIndex", name := "<init>", desc := "()V" } : Jvm.MethodName)) ∈ lw_all := lw_g (lw_at lw_m1 6 rfl) rfl
theorem q25 : (Jvm.Cond.code ({ cls := "PhraseIndex", name := "<init>", desc := "()V" } : Jvm.MethodName) prog_1_method_1_code (1 : Nat) (Option.none : Option Jvm.ClassFile.FieldType)) ∈ lw_all := lw_g (lw_at lw_m1 7 rfl) rfl
theorem q26 : (Jvm.Cond.methodLink "PhraseIndex" (1 : Nat) ({ cls := "java/lang/Object", name := "<init>", desc := "()V" } : Jvm.MethodName)) ∈ lw_all := lw_g (lw_at lw_m1 8 rfl) rfl
theorem q29 : (Jvm.Cond.fieldLink "PhraseIndex" (7 : Nat) "PhraseIndex" "sizes" "[B") ∈ lw_all := lw_g (lw_at lw_m1 11 rfl) rfl
theorem q30 : (Jvm.Cond.fieldLink "PhraseIndex" (13 : Nat) "PhraseIndex" "text" "[B") ∈ lw_all := lw_g (lw_at lw_m1 12 rfl) rfl
theorem q31 : (Jvm.Cond.fieldLink "PhraseIndex" (16 : Nat) "PhraseIndex" "posts" "[I") ∈ lw_all := lw_g (lw_at lw_m1 13 rfl) rfl
theorem q32 : (Jvm.Cond.fieldLink "PhraseIndex" (20 : Nat) "PhraseIndex" "tokens" "[B") ∈ lw_all := lw_g (lw_at lw_m1 14 rfl) rfl
theorem q33 : (Jvm.Cond.fieldLink "PhraseIndex" (49 : Nat) "PhraseIndex" "size" "I") ∈ lw_all := lw_g (lw_at lw_m1 15 rfl) rfl
theorem q34 : (Jvm.Cond.fieldLink "PhraseIndex" (23 : Nat) "PhraseIndex" "second" "[B") ∈ lw_all := lw_g (lw_at lw_m1 16 rfl) rfl
theorem q35 : (Jvm.Cond.fieldLink "PhraseIndex" (26 : Nat) "PhraseIndex" "openToken" "[B") ∈ lw_all := lw_g (lw_at lw_m1 17 rfl) rfl
theorem q36 : (Jvm.Cond.fieldLink "PhraseIndex" (29 : Nat) "PhraseIndex" "openWant" "[B") ∈ lw_all := lw_g (lw_at lw_m1 18 rfl) rfl
theorem q37 : (Jvm.Cond.fieldLink "PhraseIndex" (53 : Nat) "PhraseIndex" "openCount" "I") ∈ lw_all := lw_g (lw_at lw_m1 19 rfl) rfl
theorem q38 : (Jvm.Cond.fieldLink "PhraseIndex" (32 : Nat) "PhraseIndex" "ends" "[I") ∈ lw_all := lw_g (lw_at lw_m1 20 rfl) rfl
theorem q39 : (Jvm.Cond.fieldLink "PhraseIndex" (35 : Nat) "PhraseIndex" "truth" "[Z") ∈ lw_all := lw_g (lw_at lw_m1 21 rfl) rfl
theorem q40 : (Jvm.Cond.laysFinal "PhraseIndex" "PhraseIndex" "sizes" "[B") ∈ lw_all := lw_g (lw_at lw_m1 22 rfl) rfl
theorem q41 : (Jvm.Cond.soleField "PhraseIndex" "sizes") ∈ lw_all := lw_g (lw_at lw_m1 23 rfl) rfl
theorem q42 : (Jvm.Cond.laysFinal "PhraseIndex" "PhraseIndex" "text" "[B") ∈ lw_all := lw_g (lw_at lw_m1 24 rfl) rfl
theorem q43 : (Jvm.Cond.soleField "PhraseIndex" "text") ∈ lw_all := lw_g (lw_at lw_m1 25 rfl) rfl
theorem q44 : (Jvm.Cond.laysFinal "PhraseIndex" "PhraseIndex" "posts" "[I") ∈ lw_all := lw_g (lw_at lw_m1 26 rfl) rfl
theorem q45 : (Jvm.Cond.soleField "PhraseIndex" "posts") ∈ lw_all := lw_g (lw_at lw_m1 27 rfl) rfl
theorem q46 : (Jvm.Cond.laysFinal "PhraseIndex" "PhraseIndex" "tokens" "[B") ∈ lw_all := lw_g (lw_at lw_m1 28 rfl) rfl
theorem q47 : (Jvm.Cond.soleField "PhraseIndex" "tokens") ∈ lw_all := lw_g (lw_at lw_m1 29 rfl) rfl
theorem q48 : (Jvm.Cond.lays "PhraseIndex" "PhraseIndex" "size" "I") ∈ lw_all := lw_g (lw_at lw_m1 30 rfl) rfl
theorem q49 : (Jvm.Cond.soleField "PhraseIndex" "size") ∈ lw_all := lw_g (lw_at lw_m1 31 rfl) rfl
theorem q50 : (Jvm.Cond.laysFinal "PhraseIndex" "PhraseIndex" "second" "[B") ∈ lw_all := lw_g (lw_at lw_m1 32 rfl) rfl
theorem q51 : (Jvm.Cond.soleField "PhraseIndex" "second") ∈ lw_all := lw_g (lw_at lw_m1 33 rfl) rfl
theorem q52 : (Jvm.Cond.laysFinal "PhraseIndex" "PhraseIndex" "openToken" "[B") ∈ lw_all := lw_g (lw_at lw_m1 34 rfl) rfl
theorem q53 : (Jvm.Cond.soleField "PhraseIndex" "openToken") ∈ lw_all := lw_g (lw_at lw_m1 35 rfl) rfl
theorem q54 : (Jvm.Cond.laysFinal "PhraseIndex" "PhraseIndex" "openWant" "[B") ∈ lw_all := lw_g (lw_at lw_m1 36 rfl) rfl
theorem q55 : (Jvm.Cond.soleField "PhraseIndex" "openWant") ∈ lw_all := lw_g (lw_at lw_m1 37 rfl) rfl
theorem q56 : (Jvm.Cond.lays "PhraseIndex" "PhraseIndex" "openCount" "I") ∈ lw_all := lw_g (lw_at lw_m1 38 rfl) rfl
theorem q57 : (Jvm.Cond.soleField "PhraseIndex" "openCount") ∈ lw_all := lw_g (lw_at lw_m1 39 rfl) rfl
theorem q58 : (Jvm.Cond.laysFinal "PhraseIndex" "PhraseIndex" "ends" "[I") ∈ lw_all := lw_g (lw_at lw_m1 40 rfl) rfl
theorem q59 : (Jvm.Cond.soleField "PhraseIndex" "ends") ∈ lw_all := lw_g (lw_at lw_m1 41 rfl) rfl
theorem q60 : (Jvm.Cond.laysFinal "PhraseIndex" "PhraseIndex" "truth" "[Z") ∈ lw_all := lw_g (lw_at lw_m1 42 rfl) rfl
theorem q61 : (Jvm.Cond.soleField "PhraseIndex" "truth") ∈ lw_all := lw_g (lw_at lw_m1 43 rfl) rfl
theorem q62 : (Jvm.Cond.superclass "PhraseIndex" "java/lang/Object") ∈ lw_all := lw_g (lw_at lw_m1 44 rfl) rfl
theorem q67 : (Jvm.Cond.instanceMethod ({ cls := "PhraseIndex", name := "write", desc := "(II)I" } : Jvm.MethodName)) ∈ lw_all := lw_g (lw_at lw_m1 49 rfl) rfl
theorem q68 : (Jvm.Cond.selects "PhraseIndex" ({ cls := "PhraseIndex", name := "write", desc := "(II)I" } : Jvm.MethodName) ({ cls := "PhraseIndex", name := "write", desc := "(II)I" } : Jvm.MethodName)) ∈ lw_all := lw_g (lw_at lw_m1 50 rfl) rfl
theorem q69 : (Jvm.Cond.code ({ cls := "PhraseIndex", name := "write", desc := "(II)I" } : Jvm.MethodName) prog_1_method_4_code (4 : Nat) (Option.some Jvm.ClassFile.FieldType.int)) ∈ lw_all := lw_g (lw_at lw_m1 51 rfl) rfl
theorem q70 : (Jvm.Cond.methodLink "PhraseIndex" (39 : Nat) ({ cls := "PhraseIndex", name := "isDocument", desc := "(I)Z" } : Jvm.MethodName)) ∈ lw_all := lw_g (lw_at lw_m1 52 rfl) rfl
theorem q71 : (Jvm.Cond.static ({ cls := "PhraseIndex", name := "isDocument", desc := "(I)Z" } : Jvm.MethodName)) ∈ lw_all := lw_g (lw_at lw_m1 53 rfl) rfl
theorem q72 : (Jvm.Cond.code ({ cls := "PhraseIndex", name := "isDocument", desc := "(I)Z" } : Jvm.MethodName) prog_1_method_2_code (1 : Nat) (Option.some Jvm.ClassFile.FieldType.boolean)) ∈ lw_all := lw_g (lw_at lw_m1 54 rfl) rfl
theorem q73 : (Jvm.Cond.methodLink "PhraseIndex" (43 : Nat) ({ cls := "PhraseIndex", name := "isWord", desc := "(I)Z" } : Jvm.MethodName)) ∈ lw_all := lw_g (lw_at lw_m1 55 rfl) rfl
theorem q74 : (Jvm.Cond.static ({ cls := "PhraseIndex", name := "isWord", desc := "(I)Z" } : Jvm.MethodName)) ∈ lw_all := lw_g (lw_at lw_m1 56 rfl) rfl
theorem q75 : (Jvm.Cond.code ({ cls := "PhraseIndex", name := "isWord", desc := "(I)Z" } : Jvm.MethodName) prog_1_method_3_code (1 : Nat) (Option.some Jvm.ClassFile.FieldType.boolean)) ∈ lw_all := lw_g (lw_at lw_m1 57 rfl) rfl
theorem q77 : (Jvm.Cond.instanceMethod ({ cls := "PhraseIndex", name := "change", desc := "(III)Z" } : Jvm.MethodName)) ∈ lw_all := lw_g (lw_at lw_m1 59 rfl) rfl
theorem q78 : (Jvm.Cond.selects "PhraseIndex" ({ cls := "PhraseIndex", name := "change", desc := "(III)Z" } : Jvm.MethodName) ({ cls := "PhraseIndex", name := "change", desc := "(III)Z" } : Jvm.MethodName)) ∈ lw_all := lw_g (lw_at lw_m1 60 rfl) rfl
theorem q79 : (Jvm.Cond.code ({ cls := "PhraseIndex", name := "change", desc := "(III)Z" } : Jvm.MethodName) prog_1_method_5_code (5 : Nat) (Option.some Jvm.ClassFile.FieldType.boolean)) ∈ lw_all := lw_g (lw_at lw_m1 61 rfl) rfl
theorem q81 : (Jvm.Cond.instanceMethod ({ cls := "PhraseIndex", name := "erase", desc := "(I)Z" } : Jvm.MethodName)) ∈ lw_all := lw_g (lw_at lw_m1 63 rfl) rfl
theorem q82 : (Jvm.Cond.selects "PhraseIndex" ({ cls := "PhraseIndex", name := "erase", desc := "(I)Z" } : Jvm.MethodName) ({ cls := "PhraseIndex", name := "erase", desc := "(I)Z" } : Jvm.MethodName)) ∈ lw_all := lw_g (lw_at lw_m1 64 rfl) rfl
theorem q83 : (Jvm.Cond.code ({ cls := "PhraseIndex", name := "erase", desc := "(I)Z" } : Jvm.MethodName) prog_1_method_6_code (3 : Nat) (Option.some Jvm.ClassFile.FieldType.boolean)) ∈ lw_all := lw_g (lw_at lw_m1 65 rfl) rfl
theorem q85 : (Jvm.Cond.instanceMethod ({ cls := "PhraseIndex", name := "length", desc := "(I)I" } : Jvm.MethodName)) ∈ lw_all := lw_g (lw_at lw_m1 67 rfl) rfl
theorem q86 : (Jvm.Cond.selects "PhraseIndex" ({ cls := "PhraseIndex", name := "length", desc := "(I)I" } : Jvm.MethodName) ({ cls := "PhraseIndex", name := "length", desc := "(I)I" } : Jvm.MethodName)) ∈ lw_all := lw_g (lw_at lw_m1 68 rfl) rfl
theorem q87 : (Jvm.Cond.code ({ cls := "PhraseIndex", name := "length", desc := "(I)I" } : Jvm.MethodName) prog_1_method_7_code (2 : Nat) (Option.some Jvm.ClassFile.FieldType.int)) ∈ lw_all := lw_g (lw_at lw_m1 69 rfl) rfl
theorem q89 : (Jvm.Cond.instanceMethod ({ cls := "PhraseIndex", name := "ask", desc := "(I)I" } : Jvm.MethodName)) ∈ lw_all := lw_g (lw_at lw_m1 71 rfl) rfl
theorem q90 : (Jvm.Cond.selects "PhraseIndex" ({ cls := "PhraseIndex", name := "ask", desc := "(I)I" } : Jvm.MethodName) ({ cls := "PhraseIndex", name := "ask", desc := "(I)I" } : Jvm.MethodName)) ∈ lw_all := lw_g (lw_at lw_m1 72 rfl) rfl
theorem q91 : (Jvm.Cond.code ({ cls := "PhraseIndex", name := "ask", desc := "(I)I" } : Jvm.MethodName) prog_1_method_11_code (5 : Nat) (Option.some Jvm.ClassFile.FieldType.int)) ∈ lw_all := lw_g (lw_at lw_m1 73 rfl) rfl
theorem q92 : (Jvm.Cond.methodLink "PhraseIndex" (46 : Nat) ({ cls := "PhraseIndex", name := "read", desc := "()V" } : Jvm.MethodName)) ∈ lw_all := lw_g (lw_at lw_m1 74 rfl) rfl
theorem q93 : (Jvm.Cond.privateMethod ({ cls := "PhraseIndex", name := "read", desc := "()V" } : Jvm.MethodName)) ∈ lw_tbl := lw_at lw_m1 75 rfl
theorem q94 : (Jvm.Cond.instanceMethod ({ cls := "PhraseIndex", name := "read", desc := "()V" } : Jvm.MethodName)) ∈ lw_all := lw_g (lw_at lw_m1 76 rfl) rfl
theorem q95 : (Jvm.Cond.code ({ cls := "PhraseIndex", name := "read", desc := "()V" } : Jvm.MethodName) prog_1_method_13_code (3 : Nat) (Option.none : Option Jvm.ClassFile.FieldType)) ∈ lw_all := lw_g (lw_at lw_m1 77 rfl) rfl
theorem q96 : (Jvm.Cond.methodLink "PhraseIndex" (62 : Nat) ({ cls := "PhraseIndex", name := "attach", desc := "(I)V" } : Jvm.MethodName)) ∈ lw_all := lw_g (lw_at lw_m1 78 rfl) rfl
theorem q97 : (Jvm.Cond.privateMethod ({ cls := "PhraseIndex", name := "attach", desc := "(I)V" } : Jvm.MethodName)) ∈ lw_tbl := lw_at lw_m1 79 rfl
theorem q98 : (Jvm.Cond.instanceMethod ({ cls := "PhraseIndex", name := "attach", desc := "(I)V" } : Jvm.MethodName)) ∈ lw_all := lw_g (lw_at lw_m1 80 rfl) rfl
theorem q99 : (Jvm.Cond.code ({ cls := "PhraseIndex", name := "attach", desc := "(I)V" } : Jvm.MethodName) prog_1_method_14_code (3 : Nat) (Option.none : Option Jvm.ClassFile.FieldType)) ∈ lw_all := lw_g (lw_at lw_m1 81 rfl) rfl
theorem q100 : (Jvm.Cond.methodLink "PhraseIndex" (66 : Nat) ({ cls := "PhraseIndex", name := "wants", desc := "(I)I" } : Jvm.MethodName)) ∈ lw_all := lw_g (lw_at lw_m1 82 rfl) rfl
theorem q101 : (Jvm.Cond.static ({ cls := "PhraseIndex", name := "wants", desc := "(I)I" } : Jvm.MethodName)) ∈ lw_all := lw_g (lw_at lw_m1 83 rfl) rfl
theorem q102 : (Jvm.Cond.code ({ cls := "PhraseIndex", name := "wants", desc := "(I)I" } : Jvm.MethodName) prog_1_method_10_code (1 : Nat) (Option.some Jvm.ClassFile.FieldType.int)) ∈ lw_all := lw_g (lw_at lw_m1 84 rfl) rfl
theorem q103 : (Jvm.Cond.methodLink "PhraseIndex" (56 : Nat) ({ cls := "PhraseIndex", name := "isSpan", desc := "(I)Z" } : Jvm.MethodName)) ∈ lw_all := lw_g (lw_at lw_m1 85 rfl) rfl
theorem q104 : (Jvm.Cond.static ({ cls := "PhraseIndex", name := "isSpan", desc := "(I)Z" } : Jvm.MethodName)) ∈ lw_all := lw_g (lw_at lw_m1 86 rfl) rfl
theorem q105 : (Jvm.Cond.code ({ cls := "PhraseIndex", name := "isSpan", desc := "(I)Z" } : Jvm.MethodName) prog_1_method_9_code (1 : Nat) (Option.some Jvm.ClassFile.FieldType.boolean)) ∈ lw_all := lw_g (lw_at lw_m1 87 rfl) rfl
theorem q106 : (Jvm.Cond.methodLink "PhraseIndex" (59 : Nat) ({ cls := "PhraseIndex", name := "isCondition", desc := "(I)Z" } : Jvm.MethodName)) ∈ lw_all := lw_g (lw_at lw_m1 88 rfl) rfl
theorem q107 : (Jvm.Cond.static ({ cls := "PhraseIndex", name := "isCondition", desc := "(I)Z" } : Jvm.MethodName)) ∈ lw_all := lw_g (lw_at lw_m1 89 rfl) rfl
theorem q108 : (Jvm.Cond.code ({ cls := "PhraseIndex", name := "isCondition", desc := "(I)Z" } : Jvm.MethodName) prog_1_method_8_code (1 : Nat) (Option.some Jvm.ClassFile.FieldType.boolean)) ∈ lw_all := lw_g (lw_at lw_m1 90 rfl) rfl
theorem q110 : (Jvm.Cond.instanceMethod ({ cls := "PhraseIndex", name := "unask", desc := "()I" } : Jvm.MethodName)) ∈ lw_all := lw_g (lw_at lw_m1 92 rfl) rfl
theorem q111 : (Jvm.Cond.selects "PhraseIndex" ({ cls := "PhraseIndex", name := "unask", desc := "()I" } : Jvm.MethodName) ({ cls := "PhraseIndex", name := "unask", desc := "()I" } : Jvm.MethodName)) ∈ lw_all := lw_g (lw_at lw_m1 93 rfl) rfl
theorem q112 : (Jvm.Cond.code ({ cls := "PhraseIndex", name := "unask", desc := "()I" } : Jvm.MethodName) prog_1_method_12_code (1 : Nat) (Option.some Jvm.ClassFile.FieldType.int)) ∈ lw_all := lw_g (lw_at lw_m1 94 rfl) rfl
theorem q114 : (Jvm.Cond.instanceMethod ({ cls := "PhraseIndex", name := "complete", desc := "()Z" } : Jvm.MethodName)) ∈ lw_all := lw_g (lw_at lw_m1 96 rfl) rfl
theorem q115 : (Jvm.Cond.selects "PhraseIndex" ({ cls := "PhraseIndex", name := "complete", desc := "()Z" } : Jvm.MethodName) ({ cls := "PhraseIndex", name := "complete", desc := "()Z" } : Jvm.MethodName)) ∈ lw_all := lw_g (lw_at lw_m1 97 rfl) rfl
theorem q116 : (Jvm.Cond.code ({ cls := "PhraseIndex", name := "complete", desc := "()Z" } : Jvm.MethodName) prog_1_method_15_code (1 : Nat) (Option.some Jvm.ClassFile.FieldType.boolean)) ∈ lw_all := lw_g (lw_at lw_m1 98 rfl) rfl
theorem q118 : (Jvm.Cond.instanceMethod ({ cls := "PhraseIndex", name := "holds", desc := "(I)Z" } : Jvm.MethodName)) ∈ lw_all := lw_g (lw_at lw_m1 100 rfl) rfl
theorem q119 : (Jvm.Cond.selects "PhraseIndex" ({ cls := "PhraseIndex", name := "holds", desc := "(I)Z" } : Jvm.MethodName) ({ cls := "PhraseIndex", name := "holds", desc := "(I)Z" } : Jvm.MethodName)) ∈ lw_all := lw_g (lw_at lw_m1 101 rfl) rfl
theorem q120 : (Jvm.Cond.code ({ cls := "PhraseIndex", name := "holds", desc := "(I)Z" } : Jvm.MethodName) prog_1_method_24_code (2 : Nat) (Option.some Jvm.ClassFile.FieldType.boolean)) ∈ lw_all := lw_g (lw_at lw_m1 102 rfl) rfl
theorem q121 : (Jvm.Cond.methodLink "PhraseIndex" (99 : Nat) ({ cls := "PhraseIndex", name := "work", desc := "(I)Z" } : Jvm.MethodName)) ∈ lw_all := lw_g (lw_at lw_m1 103 rfl) rfl
theorem q122 : (Jvm.Cond.privateMethod ({ cls := "PhraseIndex", name := "work", desc := "(I)Z" } : Jvm.MethodName)) ∈ lw_tbl := lw_at lw_m1 104 rfl
theorem q123 : (Jvm.Cond.instanceMethod ({ cls := "PhraseIndex", name := "work", desc := "(I)Z" } : Jvm.MethodName)) ∈ lw_all := lw_g (lw_at lw_m1 105 rfl) rfl
theorem q124 : (Jvm.Cond.code ({ cls := "PhraseIndex", name := "work", desc := "(I)Z" } : Jvm.MethodName) prog_1_method_16_code (4 : Nat) (Option.some Jvm.ClassFile.FieldType.boolean)) ∈ lw_all := lw_g (lw_at lw_m1 106 rfl) rfl
theorem q125 : (Jvm.Cond.methodLink "PhraseIndex" (70 : Nat) ({ cls := "PhraseIndex", name := "complete", desc := "()Z" } : Jvm.MethodName)) ∈ lw_all := lw_g (lw_at lw_m1 107 rfl) rfl
theorem q126 : (Jvm.Cond.methodLink "PhraseIndex" (74 : Nat) ({ cls := "PhraseIndex", name := "word", desc := "(II)V" } : Jvm.MethodName)) ∈ lw_all := lw_g (lw_at lw_m1 108 rfl) rfl
theorem q127 : (Jvm.Cond.privateMethod ({ cls := "PhraseIndex", name := "word", desc := "(II)V" } : Jvm.MethodName)) ∈ lw_tbl := lw_at lw_m1 109 rfl
theorem q128 : (Jvm.Cond.instanceMethod ({ cls := "PhraseIndex", name := "word", desc := "(II)V" } : Jvm.MethodName)) ∈ lw_all := lw_g (lw_at lw_m1 110 rfl) rfl
theorem q129 : (Jvm.Cond.code ({ cls := "PhraseIndex", name := "word", desc := "(II)V" } : Jvm.MethodName) prog_1_method_17_code (4 : Nat) (Option.none : Option Jvm.ClassFile.FieldType)) ∈ lw_all := lw_g (lw_at lw_m1 111 rfl) rfl
theorem q130 : (Jvm.Cond.methodLink "PhraseIndex" (78 : Nat) ({ cls := "PhraseIndex", name := "combine", desc := "(II)V" } : Jvm.MethodName)) ∈ lw_all := lw_g (lw_at lw_m1 112 rfl) rfl
theorem q131 : (Jvm.Cond.privateMethod ({ cls := "PhraseIndex", name := "combine", desc := "(II)V" } : Jvm.MethodName)) ∈ lw_tbl := lw_at lw_m1 113 rfl
theorem q132 : (Jvm.Cond.instanceMethod ({ cls := "PhraseIndex", name := "combine", desc := "(II)V" } : Jvm.MethodName)) ∈ lw_all := lw_g (lw_at lw_m1 114 rfl) rfl
theorem q133 : (Jvm.Cond.code ({ cls := "PhraseIndex", name := "combine", desc := "(II)V" } : Jvm.MethodName) prog_1_method_18_code (9 : Nat) (Option.none : Option Jvm.ClassFile.FieldType)) ∈ lw_all := lw_g (lw_at lw_m1 115 rfl) rfl
theorem q134 : (Jvm.Cond.methodLink "PhraseIndex" (85 : Nat) ({ cls := "PhraseIndex", name := "greatest", desc := "(I)I" } : Jvm.MethodName)) ∈ lw_all := lw_g (lw_at lw_m1 116 rfl) rfl
theorem q135 : (Jvm.Cond.static ({ cls := "PhraseIndex", name := "greatest", desc := "(I)I" } : Jvm.MethodName)) ∈ lw_all := lw_g (lw_at lw_m1 117 rfl) rfl
theorem q136 : (Jvm.Cond.code ({ cls := "PhraseIndex", name := "greatest", desc := "(I)I" } : Jvm.MethodName) prog_1_method_20_code (2 : Nat) (Option.some Jvm.ClassFile.FieldType.int)) ∈ lw_all := lw_g (lw_at lw_m1 118 rfl) rfl
theorem q137 : (Jvm.Cond.methodLink "PhraseIndex" (88 : Nat) ({ cls := "PhraseIndex", name := "upTo", desc := "(I)I" } : Jvm.MethodName)) ∈ lw_all := lw_g (lw_at lw_m1 119 rfl) rfl
theorem q138 : (Jvm.Cond.static ({ cls := "PhraseIndex", name := "upTo", desc := "(I)I" } : Jvm.MethodName)) ∈ lw_all := lw_g (lw_at lw_m1 120 rfl) rfl
theorem q139 : (Jvm.Cond.code ({ cls := "PhraseIndex", name := "upTo", desc := "(I)I" } : Jvm.MethodName) prog_1_method_21_code (1 : Nat) (Option.some Jvm.ClassFile.FieldType.int)) ∈ lw_all := lw_g (lw_at lw_m1 121 rfl) rfl
theorem q140 : (Jvm.Cond.methodLink "PhraseIndex" (91 : Nat) ({ cls := "PhraseIndex", name := "goOn", desc := "(III)I" } : Jvm.MethodName)) ∈ lw_all := lw_g (lw_at lw_m1 122 rfl) rfl
theorem q141 : (Jvm.Cond.privateMethod ({ cls := "PhraseIndex", name := "goOn", desc := "(III)I" } : Jvm.MethodName)) ∈ lw_tbl := lw_at lw_m1 123 rfl
theorem q142 : (Jvm.Cond.instanceMethod ({ cls := "PhraseIndex", name := "goOn", desc := "(III)I" } : Jvm.MethodName)) ∈ lw_all := lw_g (lw_at lw_m1 124 rfl) rfl
theorem q143 : (Jvm.Cond.code ({ cls := "PhraseIndex", name := "goOn", desc := "(III)I" } : Jvm.MethodName) prog_1_method_19_code (6 : Nat) (Option.some Jvm.ClassFile.FieldType.int)) ∈ lw_all := lw_g (lw_at lw_m1 125 rfl) rfl
theorem q144 : (Jvm.Cond.methodLink "PhraseIndex" (81 : Nat) ({ cls := "PhraseIndex", name := "condition", desc := "(II)Z" } : Jvm.MethodName)) ∈ lw_all := lw_g (lw_at lw_m1 126 rfl) rfl
theorem q145 : (Jvm.Cond.privateMethod ({ cls := "PhraseIndex", name := "condition", desc := "(II)Z" } : Jvm.MethodName)) ∈ lw_tbl := lw_at lw_m1 127 rfl
theorem q146 : (Jvm.Cond.instanceMethod ({ cls := "PhraseIndex", name := "condition", desc := "(II)Z" } : Jvm.MethodName)) ∈ lw_all := lw_g (lw_at lw_m1 128 rfl) rfl
theorem q147 : (Jvm.Cond.code ({ cls := "PhraseIndex", name := "condition", desc := "(II)Z" } : Jvm.MethodName) prog_1_method_22_code (4 : Nat) (Option.some Jvm.ClassFile.FieldType.boolean)) ∈ lw_all := lw_g (lw_at lw_m1 129 rfl) rfl
theorem q148 : (Jvm.Cond.methodLink "PhraseIndex" (95 : Nat) ({ cls := "PhraseIndex", name := "firstBegin", desc := "(II)I" } : Jvm.MethodName)) ∈ lw_all := lw_g (lw_at lw_m1 130 rfl) rfl
theorem q149 : (Jvm.Cond.privateMethod ({ cls := "PhraseIndex", name := "firstBegin", desc := "(II)I" } : Jvm.MethodName)) ∈ lw_tbl := lw_at lw_m1 131 rfl
theorem q150 : (Jvm.Cond.instanceMethod ({ cls := "PhraseIndex", name := "firstBegin", desc := "(II)I" } : Jvm.MethodName)) ∈ lw_all := lw_g (lw_at lw_m1 132 rfl) rfl
theorem q151 : (Jvm.Cond.code ({ cls := "PhraseIndex", name := "firstBegin", desc := "(II)I" } : Jvm.MethodName) prog_1_method_23_code (4 : Nat) (Option.some Jvm.ClassFile.FieldType.int)) ∈ lw_all := lw_g (lw_at lw_m1 133 rfl) rfl
theorem q153 : (Jvm.Cond.instanceMethod ({ cls := "PhraseIndex", name := "matching", desc := "()I" } : Jvm.MethodName)) ∈ lw_all := lw_g (lw_at lw_m1 135 rfl) rfl
theorem q154 : (Jvm.Cond.selects "PhraseIndex" ({ cls := "PhraseIndex", name := "matching", desc := "()I" } : Jvm.MethodName) ({ cls := "PhraseIndex", name := "matching", desc := "()I" } : Jvm.MethodName)) ∈ lw_all := lw_g (lw_at lw_m1 136 rfl) rfl
theorem q155 : (Jvm.Cond.code ({ cls := "PhraseIndex", name := "matching", desc := "()I" } : Jvm.MethodName) prog_1_method_25_code (3 : Nat) (Option.some Jvm.ClassFile.FieldType.int)) ∈ lw_all := lw_g (lw_at lw_m1 137 rfl) rfl
theorem q156 : (Jvm.Cond.methodLink "PhraseIndex" (102 : Nat) ({ cls := "PhraseIndex", name := "holds", desc := "(I)Z" } : Jvm.MethodName)) ∈ lw_all := lw_g (lw_at lw_m1 138 rfl) rfl
theorem q158 : (Jvm.Cond.instanceMethod ({ cls := "PhraseIndex", name := "spans", desc := "(II)I" } : Jvm.MethodName)) ∈ lw_all := lw_g (lw_at lw_m1 140 rfl) rfl
theorem q159 : (Jvm.Cond.selects "PhraseIndex" ({ cls := "PhraseIndex", name := "spans", desc := "(II)I" } : Jvm.MethodName) ({ cls := "PhraseIndex", name := "spans", desc := "(II)I" } : Jvm.MethodName)) ∈ lw_all := lw_g (lw_at lw_m1 141 rfl) rfl
theorem q160 : (Jvm.Cond.code ({ cls := "PhraseIndex", name := "spans", desc := "(II)I" } : Jvm.MethodName) prog_1_method_27_code (6 : Nat) (Option.some Jvm.ClassFile.FieldType.int)) ∈ lw_all := lw_g (lw_at lw_m1 142 rfl) rfl
theorem q161 : (Jvm.Cond.methodLink "PhraseIndex" (105 : Nat) ({ cls := "PhraseIndex", name := "spanOf", desc := "(II)I" } : Jvm.MethodName)) ∈ lw_all := lw_g (lw_at lw_m1 143 rfl) rfl
theorem q162 : (Jvm.Cond.privateMethod ({ cls := "PhraseIndex", name := "spanOf", desc := "(II)I" } : Jvm.MethodName)) ∈ lw_tbl := lw_at lw_m1 144 rfl
theorem q163 : (Jvm.Cond.instanceMethod ({ cls := "PhraseIndex", name := "spanOf", desc := "(II)I" } : Jvm.MethodName)) ∈ lw_all := lw_g (lw_at lw_m1 145 rfl) rfl
theorem q164 : (Jvm.Cond.code ({ cls := "PhraseIndex", name := "spanOf", desc := "(II)I" } : Jvm.MethodName) prog_1_method_26_code (5 : Nat) (Option.some Jvm.ClassFile.FieldType.int)) ∈ lw_all := lw_g (lw_at lw_m1 146 rfl) rfl
theorem q165 : (Jvm.Cond.methodLink "PhraseIndex" (108 : Nat) ({ cls := "PhraseIndex", name := "ones", desc := "(I)I" } : Jvm.MethodName)) ∈ lw_all := lw_g (lw_at lw_m1 147 rfl) rfl
theorem q166 : (Jvm.Cond.static ({ cls := "PhraseIndex", name := "ones", desc := "(I)I" } : Jvm.MethodName)) ∈ lw_all := lw_g (lw_at lw_m1 148 rfl) rfl
theorem q167 : (Jvm.Cond.code ({ cls := "PhraseIndex", name := "ones", desc := "(I)I" } : Jvm.MethodName) prog_1_method_28_code (3 : Nat) (Option.some Jvm.ClassFile.FieldType.int)) ∈ lw_all := lw_g (lw_at lw_m1 149 rfl) rfl
theorem q169 : (Jvm.Cond.instanceMethod ({ cls := "PhraseIndex", name := "begins", desc := "(III)I" } : Jvm.MethodName)) ∈ lw_all := lw_g (lw_at lw_m1 151 rfl) rfl
theorem q170 : (Jvm.Cond.selects "PhraseIndex" ({ cls := "PhraseIndex", name := "begins", desc := "(III)I" } : Jvm.MethodName) ({ cls := "PhraseIndex", name := "begins", desc := "(III)I" } : Jvm.MethodName)) ∈ lw_all := lw_g (lw_at lw_m1 152 rfl) rfl
theorem q171 : (Jvm.Cond.code ({ cls := "PhraseIndex", name := "begins", desc := "(III)I" } : Jvm.MethodName) prog_1_method_29_code (5 : Nat) (Option.some Jvm.ClassFile.FieldType.int)) ∈ lw_all := lw_g (lw_at lw_m1 153 rfl) rfl
theorem q173 : (Jvm.Cond.instanceMethod ({ cls := "PhraseIndex", name := "ends", desc := "(III)I" } : Jvm.MethodName)) ∈ lw_all := lw_g (lw_at lw_m1 155 rfl) rfl
theorem q174 : (Jvm.Cond.selects "PhraseIndex" ({ cls := "PhraseIndex", name := "ends", desc := "(III)I" } : Jvm.MethodName) ({ cls := "PhraseIndex", name := "ends", desc := "(III)I" } : Jvm.MethodName)) ∈ lw_all := lw_g (lw_at lw_m1 156 rfl) rfl
theorem q175 : (Jvm.Cond.code ({ cls := "PhraseIndex", name := "ends", desc := "(III)I" } : Jvm.MethodName) prog_1_method_30_code (7 : Nat) (Option.some Jvm.ClassFile.FieldType.int)) ∈ lw_all := lw_g (lw_at lw_m1 157 rfl) rfl
theorem q177 : (Jvm.Cond.instanceMethod ({ cls := "PhraseIndex", name := "having", desc := "(I)I" } : Jvm.MethodName)) ∈ lw_all := lw_g (lw_at lw_m1 159 rfl) rfl
theorem q178 : (Jvm.Cond.selects "PhraseIndex" ({ cls := "PhraseIndex", name := "having", desc := "(I)I" } : Jvm.MethodName) ({ cls := "PhraseIndex", name := "having", desc := "(I)I" } : Jvm.MethodName)) ∈ lw_all := lw_g (lw_at lw_m1 160 rfl) rfl
theorem q179 : (Jvm.Cond.code ({ cls := "PhraseIndex", name := "having", desc := "(I)I" } : Jvm.MethodName) prog_1_method_31_code (4 : Nat) (Option.some Jvm.ClassFile.FieldType.int)) ∈ lw_all := lw_g (lw_at lw_m1 161 rfl) rfl
theorem q181 : (Jvm.Cond.instanceMethod ({ cls := "PhraseIndex", name := "frequency", desc := "(I)I" } : Jvm.MethodName)) ∈ lw_all := lw_g (lw_at lw_m1 163 rfl) rfl
theorem q182 : (Jvm.Cond.selects "PhraseIndex" ({ cls := "PhraseIndex", name := "frequency", desc := "(I)I" } : Jvm.MethodName) ({ cls := "PhraseIndex", name := "frequency", desc := "(I)I" } : Jvm.MethodName)) ∈ lw_all := lw_g (lw_at lw_m1 164 rfl) rfl
theorem q183 : (Jvm.Cond.code ({ cls := "PhraseIndex", name := "frequency", desc := "(I)I" } : Jvm.MethodName) prog_1_method_32_code (4 : Nat) (Option.some Jvm.ClassFile.FieldType.int)) ∈ lw_all := lw_g (lw_at lw_m1 165 rfl) rfl
theorem q185 : (Jvm.Cond.instanceMethod ({ cls := "PhraseIndex", name := "hasTokens", desc := "()I" } : Jvm.MethodName)) ∈ lw_all := lw_g (lw_at lw_m1 167 rfl) rfl
theorem q186 : (Jvm.Cond.selects "PhraseIndex" ({ cls := "PhraseIndex", name := "hasTokens", desc := "()I" } : Jvm.MethodName) ({ cls := "PhraseIndex", name := "hasTokens", desc := "()I" } : Jvm.MethodName)) ∈ lw_all := lw_g (lw_at lw_m1 168 rfl) rfl
theorem q187 : (Jvm.Cond.code ({ cls := "PhraseIndex", name := "hasTokens", desc := "()I" } : Jvm.MethodName) prog_1_method_33_code (3 : Nat) (Option.some Jvm.ClassFile.FieldType.int)) ∈ lw_all := lw_g (lw_at lw_m1 169 rfl) rfl
theorem in_X0 : ∀ w ∈ wsX00, w ∈ lw_all := lw_in wsX00 [40, 42, 44, 46, 48, 50, 52, 54, 56, 58, 60] (by decide +kernel) (by decide +kernel)
/-! PhraseIndexModel -/
def RX1 : String := "PhraseIndexModel"
def TX1 : u_T := fun k => match k with
  | 0 => ("PhraseIndexModel", "size", "[I", false)
  | 1 => ("PhraseIndexModel", "words", "[I", false)
  | 2 => ("PhraseIndexModel", "asked", "I", false)
  | 3 => ("PhraseIndexModel", "query", "[I", false)
  | 4 => ("PhraseIndexModel", "rows", "[I", false)
  | 5 => ("PhraseIndexModel", "stack", "[I", false)
  | _ => ("PhraseIndexModel", "places", "[I", false)
def tyX1 : Nat → FieldType := fun k => match k with
  | 0 => .array .int
  | 1 => .array .int
  | 2 => .int
  | 3 => .array .int
  | 4 => .array .int
  | 5 => .array .int
  | _ => .array .int
abbrev wsX10 : List Cond := u_ws RX1 TX1 7
theorem nmX1 : ∀ a, a < 7 → ∀ b, b < 7 → a ≠ b → (TX1 a).2.1 ≠ (TX1 b).2.1 := by decide +kernel
theorem tyX1_ok : ∀ k, k < 7 → parseFieldDescriptor (TX1 k).2.2.1 = some (tyX1 k) := by decide +kernel
abbrev cX1_init : ByteArray := prog_3_method_1_code
def yX1_init : MethodName := ⟨RX1, "<init>", "()V"⟩
abbrev cX1_write : ByteArray := prog_3_method_3_code
def yX1_write : MethodName := ⟨RX1, "write", "(II)I"⟩
abbrev cX1_document : ByteArray := prog_3_method_2_code
def yX1_document : MethodName := ⟨RX1, "document", "(I)Z"⟩
abbrev cX1_change : ByteArray := prog_3_method_4_code
def yX1_change : MethodName := ⟨RX1, "change", "(III)Z"⟩
abbrev cX1_erase : ByteArray := prog_3_method_5_code
def yX1_erase : MethodName := ⟨RX1, "erase", "(I)Z"⟩
abbrev cX1_length : ByteArray := prog_3_method_6_code
def yX1_length : MethodName := ⟨RX1, "length", "(I)I"⟩
abbrev cX1_ask : ByteArray := prog_3_method_9_code
def yX1_ask : MethodName := ⟨RX1, "ask", "(I)I"⟩
abbrev cX1_due : ByteArray := prog_3_method_8_code
def yX1_due : MethodName := ⟨RX1, "due", "()I"⟩
abbrev cX1_parts : ByteArray := prog_3_method_7_code
def yX1_parts : MethodName := ⟨RX1, "parts", "(I)I"⟩
abbrev cX1_unask : ByteArray := prog_3_method_10_code
def yX1_unask : MethodName := ⟨RX1, "unask", "()I"⟩
abbrev cX1_complete : ByteArray := prog_3_method_11_code
def yX1_complete : MethodName := ⟨RX1, "complete", "()Z"⟩
abbrev cX1_holds : ByteArray := prog_3_method_17_code
def yX1_holds : MethodName := ⟨RX1, "holds", "(I)Z"⟩
abbrev cX1_work : ByteArray := prog_3_method_16_code
def yX1_work : MethodName := ⟨RX1, "work", "(I)V"⟩
abbrev cX1_some : ByteArray := prog_3_method_15_code
def yX1_some : MethodName := ⟨RX1, "some", "(I)Z"⟩
abbrev cX1_spansAt : ByteArray := prog_3_method_14_code
def yX1_spansAt : MethodName := ⟨RX1, "spansAt", "(IIIII)I"⟩
abbrev cX1_within : ByteArray := prog_3_method_13_code
def yX1_within : MethodName := ⟨RX1, "within", "(II)I"⟩
abbrev cX1_then : ByteArray := prog_3_method_12_code
def yX1_then : MethodName := ⟨RX1, "then", "(III)I"⟩
abbrev cX1_matching : ByteArray := prog_3_method_18_code
def yX1_matching : MethodName := ⟨RX1, "matching", "()I"⟩
abbrev cX1_spans : ByteArray := prog_3_method_20_code
def yX1_spans : MethodName := ⟨RX1, "spans", "(II)I"⟩
abbrev cX1_find : ByteArray := prog_3_method_19_code
def yX1_find : MethodName := ⟨RX1, "find", "(II)I"⟩
abbrev cX1_begins : ByteArray := prog_3_method_21_code
def yX1_begins : MethodName := ⟨RX1, "begins", "(III)I"⟩
abbrev cX1_ends : ByteArray := prog_3_method_22_code
def yX1_ends : MethodName := ⟨RX1, "ends", "(III)I"⟩
abbrev cX1_having : ByteArray := prog_3_method_23_code
def yX1_having : MethodName := ⟨RX1, "having", "(I)I"⟩
abbrev cX1_frequency : ByteArray := prog_3_method_24_code
def yX1_frequency : MethodName := ⟨RX1, "frequency", "(I)I"⟩
abbrev cX1_hasTokens : ByteArray := prog_3_method_25_code
def yX1_hasTokens : MethodName := ⟨RX1, "hasTokens", "()I"⟩
theorem q20 : (Jvm.Cond.initialized "PhraseIndexModel") ∈ lw_all := lw_g (lw_at lw_m1 2 rfl) rfl
theorem q189 : (Jvm.Cond.instantiable "PhraseIndexModel" (7 : Nat)) ∈ lw_all := lw_g (lw_at lw_m1 171 rfl) rfl
theorem q191 : (Jvm.Cond.instanceMethod ({ cls := "PhraseIndexModel", name := "<init>", desc := "()V" } : Jvm.MethodName)) ∈ lw_all := lw_g (lw_at lw_m1 173 rfl) rfl
theorem q192 : (Jvm.Cond.code ({ cls := "PhraseIndexModel", name := "<init>", desc := "()V" } : Jvm.MethodName) prog_3_method_1_code (1 : Nat) (Option.none : Option Jvm.ClassFile.FieldType)) ∈ lw_all := lw_g (lw_at lw_m1 174 rfl) rfl
theorem q193 : (Jvm.Cond.methodLink "PhraseIndexModel" (1 : Nat) ({ cls := "java/lang/Object", name := "<init>", desc := "()V" } : Jvm.MethodName)) ∈ lw_all := lw_g (lw_at lw_m1 175 rfl) rfl
theorem q194 : (Jvm.Cond.fieldLink "PhraseIndexModel" (7 : Nat) "PhraseIndexModel" "size" "[I") ∈ lw_all := lw_g (lw_at lw_m1 176 rfl) rfl
theorem q195 : (Jvm.Cond.fieldLink "PhraseIndexModel" (13 : Nat) "PhraseIndexModel" "words" "[I") ∈ lw_all := lw_g (lw_at lw_m1 177 rfl) rfl
theorem q196 : (Jvm.Cond.fieldLink "PhraseIndexModel" (32 : Nat) "PhraseIndexModel" "asked" "I") ∈ lw_all := lw_g (lw_at lw_m1 178 rfl) rfl
theorem q197 : (Jvm.Cond.fieldLink "PhraseIndexModel" (16 : Nat) "PhraseIndexModel" "query" "[I") ∈ lw_all := lw_g (lw_at lw_m1 179 rfl) rfl
theorem q198 : (Jvm.Cond.fieldLink "PhraseIndexModel" (19 : Nat) "PhraseIndexModel" "rows" "[I") ∈ lw_all := lw_g (lw_at lw_m1 180 rfl) rfl
theorem q199 : (Jvm.Cond.fieldLink "PhraseIndexModel" (22 : Nat) "PhraseIndexModel" "stack" "[I") ∈ lw_all := lw_g (lw_at lw_m1 181 rfl) rfl
theorem q200 : (Jvm.Cond.fieldLink "PhraseIndexModel" (25 : Nat) "PhraseIndexModel" "places" "[I") ∈ lw_all := lw_g (lw_at lw_m1 182 rfl) rfl
theorem q201 : (Jvm.Cond.lays "PhraseIndexModel" "PhraseIndexModel" "size" "[I") ∈ lw_all := lw_g (lw_at lw_m1 183 rfl) rfl
theorem q202 : (Jvm.Cond.soleField "PhraseIndexModel" "size") ∈ lw_all := lw_g (lw_at lw_m1 184 rfl) rfl
theorem q203 : (Jvm.Cond.lays "PhraseIndexModel" "PhraseIndexModel" "words" "[I") ∈ lw_all := lw_g (lw_at lw_m1 185 rfl) rfl
theorem q204 : (Jvm.Cond.soleField "PhraseIndexModel" "words") ∈ lw_all := lw_g (lw_at lw_m1 186 rfl) rfl
theorem q205 : (Jvm.Cond.lays "PhraseIndexModel" "PhraseIndexModel" "asked" "I") ∈ lw_all := lw_g (lw_at lw_m1 187 rfl) rfl
theorem q206 : (Jvm.Cond.soleField "PhraseIndexModel" "asked") ∈ lw_all := lw_g (lw_at lw_m1 188 rfl) rfl
theorem q207 : (Jvm.Cond.lays "PhraseIndexModel" "PhraseIndexModel" "query" "[I") ∈ lw_all := lw_g (lw_at lw_m1 189 rfl) rfl
theorem q208 : (Jvm.Cond.soleField "PhraseIndexModel" "query") ∈ lw_all := lw_g (lw_at lw_m1 190 rfl) rfl
theorem q209 : (Jvm.Cond.lays "PhraseIndexModel" "PhraseIndexModel" "rows" "[I") ∈ lw_all := lw_g (lw_at lw_m1 191 rfl) rfl
theorem q210 : (Jvm.Cond.soleField "PhraseIndexModel" "rows") ∈ lw_all := lw_g (lw_at lw_m1 192 rfl) rfl
theorem q211 : (Jvm.Cond.lays "PhraseIndexModel" "PhraseIndexModel" "stack" "[I") ∈ lw_all := lw_g (lw_at lw_m1 193 rfl) rfl
theorem q212 : (Jvm.Cond.soleField "PhraseIndexModel" "stack") ∈ lw_all := lw_g (lw_at lw_m1 194 rfl) rfl
theorem q213 : (Jvm.Cond.lays "PhraseIndexModel" "PhraseIndexModel" "places" "[I") ∈ lw_all := lw_g (lw_at lw_m1 195 rfl) rfl
theorem q214 : (Jvm.Cond.soleField "PhraseIndexModel" "places") ∈ lw_all := lw_g (lw_at lw_m1 196 rfl) rfl
theorem q215 : (Jvm.Cond.superclass "PhraseIndexModel" "java/lang/Object") ∈ lw_all := lw_g (lw_at lw_m1 197 rfl) rfl
theorem q217 : (Jvm.Cond.instanceMethod ({ cls := "PhraseIndexModel", name := "write", desc := "(II)I" } : Jvm.MethodName)) ∈ lw_all := lw_g (lw_at lw_m1 199 rfl) rfl
theorem q218 : (Jvm.Cond.selects "PhraseIndexModel" ({ cls := "PhraseIndexModel", name := "write", desc := "(II)I" } : Jvm.MethodName) ({ cls := "PhraseIndexModel", name := "write", desc := "(II)I" } : Jvm.MethodName)) ∈ lw_all := lw_g (lw_at lw_m1 200 rfl) rfl
theorem q219 : (Jvm.Cond.code ({ cls := "PhraseIndexModel", name := "write", desc := "(II)I" } : Jvm.MethodName) prog_3_method_3_code (3 : Nat) (Option.some Jvm.ClassFile.FieldType.int)) ∈ lw_all := lw_g (lw_at lw_m1 201 rfl) rfl
theorem q220 : (Jvm.Cond.methodLink "PhraseIndexModel" (28 : Nat) ({ cls := "PhraseIndexModel", name := "document", desc := "(I)Z" } : Jvm.MethodName)) ∈ lw_all := lw_g (lw_at lw_m1 202 rfl) rfl
theorem q221 : (Jvm.Cond.privateMethod ({ cls := "PhraseIndexModel", name := "document", desc := "(I)Z" } : Jvm.MethodName)) ∈ lw_tbl := lw_at lw_m1 203 rfl
theorem q222 : (Jvm.Cond.instanceMethod ({ cls := "PhraseIndexModel", name := "document", desc := "(I)Z" } : Jvm.MethodName)) ∈ lw_all := lw_g (lw_at lw_m1 204 rfl) rfl
theorem q223 : (Jvm.Cond.code ({ cls := "PhraseIndexModel", name := "document", desc := "(I)Z" } : Jvm.MethodName) prog_3_method_2_code (2 : Nat) (Option.some Jvm.ClassFile.FieldType.boolean)) ∈ lw_all := lw_g (lw_at lw_m1 205 rfl) rfl
theorem q225 : (Jvm.Cond.instanceMethod ({ cls := "PhraseIndexModel", name := "change", desc := "(III)Z" } : Jvm.MethodName)) ∈ lw_all := lw_g (lw_at lw_m1 207 rfl) rfl
theorem q226 : (Jvm.Cond.selects "PhraseIndexModel" ({ cls := "PhraseIndexModel", name := "change", desc := "(III)Z" } : Jvm.MethodName) ({ cls := "PhraseIndexModel", name := "change", desc := "(III)Z" } : Jvm.MethodName)) ∈ lw_all := lw_g (lw_at lw_m1 208 rfl) rfl
theorem q227 : (Jvm.Cond.code ({ cls := "PhraseIndexModel", name := "change", desc := "(III)Z" } : Jvm.MethodName) prog_3_method_4_code (4 : Nat) (Option.some Jvm.ClassFile.FieldType.boolean)) ∈ lw_all := lw_g (lw_at lw_m1 209 rfl) rfl
theorem q229 : (Jvm.Cond.instanceMethod ({ cls := "PhraseIndexModel", name := "erase", desc := "(I)Z" } : Jvm.MethodName)) ∈ lw_all := lw_g (lw_at lw_m1 211 rfl) rfl
theorem q230 : (Jvm.Cond.selects "PhraseIndexModel" ({ cls := "PhraseIndexModel", name := "erase", desc := "(I)Z" } : Jvm.MethodName) ({ cls := "PhraseIndexModel", name := "erase", desc := "(I)Z" } : Jvm.MethodName)) ∈ lw_all := lw_g (lw_at lw_m1 212 rfl) rfl
theorem q231 : (Jvm.Cond.code ({ cls := "PhraseIndexModel", name := "erase", desc := "(I)Z" } : Jvm.MethodName) prog_3_method_5_code (2 : Nat) (Option.some Jvm.ClassFile.FieldType.boolean)) ∈ lw_all := lw_g (lw_at lw_m1 213 rfl) rfl
theorem q233 : (Jvm.Cond.instanceMethod ({ cls := "PhraseIndexModel", name := "length", desc := "(I)I" } : Jvm.MethodName)) ∈ lw_all := lw_g (lw_at lw_m1 215 rfl) rfl
theorem q234 : (Jvm.Cond.selects "PhraseIndexModel" ({ cls := "PhraseIndexModel", name := "length", desc := "(I)I" } : Jvm.MethodName) ({ cls := "PhraseIndexModel", name := "length", desc := "(I)I" } : Jvm.MethodName)) ∈ lw_all := lw_g (lw_at lw_m1 216 rfl) rfl
theorem q235 : (Jvm.Cond.code ({ cls := "PhraseIndexModel", name := "length", desc := "(I)I" } : Jvm.MethodName) prog_3_method_6_code (2 : Nat) (Option.some Jvm.ClassFile.FieldType.int)) ∈ lw_all := lw_g (lw_at lw_m1 217 rfl) rfl
theorem q237 : (Jvm.Cond.instanceMethod ({ cls := "PhraseIndexModel", name := "ask", desc := "(I)I" } : Jvm.MethodName)) ∈ lw_all := lw_g (lw_at lw_m1 219 rfl) rfl
theorem q238 : (Jvm.Cond.selects "PhraseIndexModel" ({ cls := "PhraseIndexModel", name := "ask", desc := "(I)I" } : Jvm.MethodName) ({ cls := "PhraseIndexModel", name := "ask", desc := "(I)I" } : Jvm.MethodName)) ∈ lw_all := lw_g (lw_at lw_m1 220 rfl) rfl
theorem q239 : (Jvm.Cond.code ({ cls := "PhraseIndexModel", name := "ask", desc := "(I)I" } : Jvm.MethodName) prog_3_method_9_code (5 : Nat) (Option.some Jvm.ClassFile.FieldType.int)) ∈ lw_all := lw_g (lw_at lw_m1 221 rfl) rfl
theorem q240 : (Jvm.Cond.methodLink "PhraseIndexModel" (40 : Nat) ({ cls := "PhraseIndexModel", name := "due", desc := "()I" } : Jvm.MethodName)) ∈ lw_all := lw_g (lw_at lw_m1 222 rfl) rfl
theorem q241 : (Jvm.Cond.privateMethod ({ cls := "PhraseIndexModel", name := "due", desc := "()I" } : Jvm.MethodName)) ∈ lw_tbl := lw_at lw_m1 223 rfl
theorem q242 : (Jvm.Cond.instanceMethod ({ cls := "PhraseIndexModel", name := "due", desc := "()I" } : Jvm.MethodName)) ∈ lw_all := lw_g (lw_at lw_m1 224 rfl) rfl
theorem q243 : (Jvm.Cond.code ({ cls := "PhraseIndexModel", name := "due", desc := "()I" } : Jvm.MethodName) prog_3_method_8_code (5 : Nat) (Option.some Jvm.ClassFile.FieldType.int)) ∈ lw_all := lw_g (lw_at lw_m1 225 rfl) rfl
theorem q244 : (Jvm.Cond.methodLink "PhraseIndexModel" (36 : Nat) ({ cls := "PhraseIndexModel", name := "parts", desc := "(I)I" } : Jvm.MethodName)) ∈ lw_all := lw_g (lw_at lw_m1 226 rfl) rfl
theorem q245 : (Jvm.Cond.privateMethod ({ cls := "PhraseIndexModel", name := "parts", desc := "(I)I" } : Jvm.MethodName)) ∈ lw_tbl := lw_at lw_m1 227 rfl
theorem q246 : (Jvm.Cond.instanceMethod ({ cls := "PhraseIndexModel", name := "parts", desc := "(I)I" } : Jvm.MethodName)) ∈ lw_all := lw_g (lw_at lw_m1 228 rfl) rfl
theorem q247 : (Jvm.Cond.code ({ cls := "PhraseIndexModel", name := "parts", desc := "(I)I" } : Jvm.MethodName) prog_3_method_7_code (2 : Nat) (Option.some Jvm.ClassFile.FieldType.int)) ∈ lw_all := lw_g (lw_at lw_m1 229 rfl) rfl
theorem q249 : (Jvm.Cond.instanceMethod ({ cls := "PhraseIndexModel", name := "unask", desc := "()I" } : Jvm.MethodName)) ∈ lw_all := lw_g (lw_at lw_m1 231 rfl) rfl
theorem q250 : (Jvm.Cond.selects "PhraseIndexModel" ({ cls := "PhraseIndexModel", name := "unask", desc := "()I" } : Jvm.MethodName) ({ cls := "PhraseIndexModel", name := "unask", desc := "()I" } : Jvm.MethodName)) ∈ lw_all := lw_g (lw_at lw_m1 232 rfl) rfl
theorem q251 : (Jvm.Cond.code ({ cls := "PhraseIndexModel", name := "unask", desc := "()I" } : Jvm.MethodName) prog_3_method_10_code (1 : Nat) (Option.some Jvm.ClassFile.FieldType.int)) ∈ lw_all := lw_g (lw_at lw_m1 233 rfl) rfl
theorem q253 : (Jvm.Cond.instanceMethod ({ cls := "PhraseIndexModel", name := "complete", desc := "()Z" } : Jvm.MethodName)) ∈ lw_all := lw_g (lw_at lw_m1 235 rfl) rfl
theorem q254 : (Jvm.Cond.selects "PhraseIndexModel" ({ cls := "PhraseIndexModel", name := "complete", desc := "()Z" } : Jvm.MethodName) ({ cls := "PhraseIndexModel", name := "complete", desc := "()Z" } : Jvm.MethodName)) ∈ lw_all := lw_g (lw_at lw_m1 236 rfl) rfl
theorem q255 : (Jvm.Cond.code ({ cls := "PhraseIndexModel", name := "complete", desc := "()Z" } : Jvm.MethodName) prog_3_method_11_code (1 : Nat) (Option.some Jvm.ClassFile.FieldType.boolean)) ∈ lw_all := lw_g (lw_at lw_m1 237 rfl) rfl
theorem q257 : (Jvm.Cond.instanceMethod ({ cls := "PhraseIndexModel", name := "holds", desc := "(I)Z" } : Jvm.MethodName)) ∈ lw_all := lw_g (lw_at lw_m1 239 rfl) rfl
theorem q258 : (Jvm.Cond.selects "PhraseIndexModel" ({ cls := "PhraseIndexModel", name := "holds", desc := "(I)Z" } : Jvm.MethodName) ({ cls := "PhraseIndexModel", name := "holds", desc := "(I)Z" } : Jvm.MethodName)) ∈ lw_all := lw_g (lw_at lw_m2 0 rfl) rfl
theorem q259 : (Jvm.Cond.code ({ cls := "PhraseIndexModel", name := "holds", desc := "(I)Z" } : Jvm.MethodName) prog_3_method_17_code (2 : Nat) (Option.some Jvm.ClassFile.FieldType.boolean)) ∈ lw_all := lw_g (lw_at lw_m2 1 rfl) rfl
theorem q260 : (Jvm.Cond.methodLink "PhraseIndexModel" (59 : Nat) ({ cls := "PhraseIndexModel", name := "complete", desc := "()Z" } : Jvm.MethodName)) ∈ lw_all := lw_g (lw_at lw_m2 2 rfl) rfl
theorem q261 : (Jvm.Cond.methodLink "PhraseIndexModel" (63 : Nat) ({ cls := "PhraseIndexModel", name := "work", desc := "(I)V" } : Jvm.MethodName)) ∈ lw_all := lw_g (lw_at lw_m2 3 rfl) rfl
theorem q262 : (Jvm.Cond.privateMethod ({ cls := "PhraseIndexModel", name := "work", desc := "(I)V" } : Jvm.MethodName)) ∈ lw_tbl := lw_at lw_m2 4 rfl
theorem q263 : (Jvm.Cond.instanceMethod ({ cls := "PhraseIndexModel", name := "work", desc := "(I)V" } : Jvm.MethodName)) ∈ lw_all := lw_g (lw_at lw_m2 5 rfl) rfl
theorem q264 : (Jvm.Cond.code ({ cls := "PhraseIndexModel", name := "work", desc := "(I)V" } : Jvm.MethodName) prog_3_method_16_code (11 : Nat) (Option.none : Option Jvm.ClassFile.FieldType)) ∈ lw_all := lw_g (lw_at lw_m2 6 rfl) rfl
theorem q265 : (Jvm.Cond.methodLink "PhraseIndexModel" (52 : Nat) ({ cls := "PhraseIndexModel", name := "some", desc := "(I)Z" } : Jvm.MethodName)) ∈ lw_all := lw_g (lw_at lw_m2 7 rfl) rfl
theorem q266 : (Jvm.Cond.privateMethod ({ cls := "PhraseIndexModel", name := "some", desc := "(I)Z" } : Jvm.MethodName)) ∈ lw_tbl := lw_at lw_m2 8 rfl
theorem q267 : (Jvm.Cond.instanceMethod ({ cls := "PhraseIndexModel", name := "some", desc := "(I)Z" } : Jvm.MethodName)) ∈ lw_all := lw_g (lw_at lw_m2 9 rfl) rfl
theorem q268 : (Jvm.Cond.code ({ cls := "PhraseIndexModel", name := "some", desc := "(I)Z" } : Jvm.MethodName) prog_3_method_15_code (4 : Nat) (Option.some Jvm.ClassFile.FieldType.boolean)) ∈ lw_all := lw_g (lw_at lw_m2 10 rfl) rfl
theorem q269 : (Jvm.Cond.methodLink "PhraseIndexModel" (55 : Nat) ({ cls := "PhraseIndexModel", name := "spansAt", desc := "(IIIII)I" } : Jvm.MethodName)) ∈ lw_all := lw_g (lw_at lw_m2 11 rfl) rfl
theorem q270 : (Jvm.Cond.privateMethod ({ cls := "PhraseIndexModel", name := "spansAt", desc := "(IIIII)I" } : Jvm.MethodName)) ∈ lw_tbl := lw_at lw_m2 12 rfl
theorem q271 : (Jvm.Cond.instanceMethod ({ cls := "PhraseIndexModel", name := "spansAt", desc := "(IIIII)I" } : Jvm.MethodName)) ∈ lw_all := lw_g (lw_at lw_m2 13 rfl) rfl
theorem q272 : (Jvm.Cond.code ({ cls := "PhraseIndexModel", name := "spansAt", desc := "(IIIII)I" } : Jvm.MethodName) prog_3_method_14_code (7 : Nat) (Option.some Jvm.ClassFile.FieldType.int)) ∈ lw_all := lw_g (lw_at lw_m2 14 rfl) rfl
theorem q273 : (Jvm.Cond.methodLink "PhraseIndexModel" (44 : Nat) ({ cls := "PhraseIndexModel", name := "within", desc := "(II)I" } : Jvm.MethodName)) ∈ lw_all := lw_g (lw_at lw_m2 15 rfl) rfl
theorem q274 : (Jvm.Cond.privateMethod ({ cls := "PhraseIndexModel", name := "within", desc := "(II)I" } : Jvm.MethodName)) ∈ lw_tbl := lw_at lw_m2 16 rfl
theorem q275 : (Jvm.Cond.instanceMethod ({ cls := "PhraseIndexModel", name := "within", desc := "(II)I" } : Jvm.MethodName)) ∈ lw_all := lw_g (lw_at lw_m2 17 rfl) rfl
theorem q276 : (Jvm.Cond.code ({ cls := "PhraseIndexModel", name := "within", desc := "(II)I" } : Jvm.MethodName) prog_3_method_13_code (6 : Nat) (Option.some Jvm.ClassFile.FieldType.int)) ∈ lw_all := lw_g (lw_at lw_m2 18 rfl) rfl
theorem q277 : (Jvm.Cond.methodLink "PhraseIndexModel" (48 : Nat) ({ cls := "PhraseIndexModel", name := "then", desc := "(III)I" } : Jvm.MethodName)) ∈ lw_all := lw_g (lw_at lw_m2 19 rfl) rfl
theorem q278 : (Jvm.Cond.privateMethod ({ cls := "PhraseIndexModel", name := "then", desc := "(III)I" } : Jvm.MethodName)) ∈ lw_tbl := lw_at lw_m2 20 rfl
theorem q279 : (Jvm.Cond.instanceMethod ({ cls := "PhraseIndexModel", name := "then", desc := "(III)I" } : Jvm.MethodName)) ∈ lw_all := lw_g (lw_at lw_m2 21 rfl) rfl
theorem q280 : (Jvm.Cond.code ({ cls := "PhraseIndexModel", name := "then", desc := "(III)I" } : Jvm.MethodName) prog_3_method_12_code (6 : Nat) (Option.some Jvm.ClassFile.FieldType.int)) ∈ lw_all := lw_g (lw_at lw_m2 22 rfl) rfl
theorem q282 : (Jvm.Cond.instanceMethod ({ cls := "PhraseIndexModel", name := "matching", desc := "()I" } : Jvm.MethodName)) ∈ lw_all := lw_g (lw_at lw_m2 24 rfl) rfl
theorem q283 : (Jvm.Cond.selects "PhraseIndexModel" ({ cls := "PhraseIndexModel", name := "matching", desc := "()I" } : Jvm.MethodName) ({ cls := "PhraseIndexModel", name := "matching", desc := "()I" } : Jvm.MethodName)) ∈ lw_all := lw_g (lw_at lw_m2 25 rfl) rfl
theorem q284 : (Jvm.Cond.code ({ cls := "PhraseIndexModel", name := "matching", desc := "()I" } : Jvm.MethodName) prog_3_method_18_code (3 : Nat) (Option.some Jvm.ClassFile.FieldType.int)) ∈ lw_all := lw_g (lw_at lw_m2 26 rfl) rfl
theorem q285 : (Jvm.Cond.methodLink "PhraseIndexModel" (67 : Nat) ({ cls := "PhraseIndexModel", name := "holds", desc := "(I)Z" } : Jvm.MethodName)) ∈ lw_all := lw_g (lw_at lw_m2 27 rfl) rfl
theorem q287 : (Jvm.Cond.instanceMethod ({ cls := "PhraseIndexModel", name := "spans", desc := "(II)I" } : Jvm.MethodName)) ∈ lw_all := lw_g (lw_at lw_m2 29 rfl) rfl
theorem q288 : (Jvm.Cond.selects "PhraseIndexModel" ({ cls := "PhraseIndexModel", name := "spans", desc := "(II)I" } : Jvm.MethodName) ({ cls := "PhraseIndexModel", name := "spans", desc := "(II)I" } : Jvm.MethodName)) ∈ lw_all := lw_g (lw_at lw_m2 30 rfl) rfl
theorem q289 : (Jvm.Cond.code ({ cls := "PhraseIndexModel", name := "spans", desc := "(II)I" } : Jvm.MethodName) prog_3_method_20_code (6 : Nat) (Option.some Jvm.ClassFile.FieldType.int)) ∈ lw_all := lw_g (lw_at lw_m2 31 rfl) rfl
theorem q290 : (Jvm.Cond.methodLink "PhraseIndexModel" (70 : Nat) ({ cls := "PhraseIndexModel", name := "find", desc := "(II)I" } : Jvm.MethodName)) ∈ lw_all := lw_g (lw_at lw_m2 32 rfl) rfl
theorem q291 : (Jvm.Cond.privateMethod ({ cls := "PhraseIndexModel", name := "find", desc := "(II)I" } : Jvm.MethodName)) ∈ lw_tbl := lw_at lw_m2 33 rfl
theorem q292 : (Jvm.Cond.instanceMethod ({ cls := "PhraseIndexModel", name := "find", desc := "(II)I" } : Jvm.MethodName)) ∈ lw_all := lw_g (lw_at lw_m2 34 rfl) rfl
theorem q293 : (Jvm.Cond.code ({ cls := "PhraseIndexModel", name := "find", desc := "(II)I" } : Jvm.MethodName) prog_3_method_19_code (5 : Nat) (Option.some Jvm.ClassFile.FieldType.int)) ∈ lw_all := lw_g (lw_at lw_m2 35 rfl) rfl
theorem q295 : (Jvm.Cond.instanceMethod ({ cls := "PhraseIndexModel", name := "begins", desc := "(III)I" } : Jvm.MethodName)) ∈ lw_all := lw_g (lw_at lw_m2 37 rfl) rfl
theorem q296 : (Jvm.Cond.selects "PhraseIndexModel" ({ cls := "PhraseIndexModel", name := "begins", desc := "(III)I" } : Jvm.MethodName) ({ cls := "PhraseIndexModel", name := "begins", desc := "(III)I" } : Jvm.MethodName)) ∈ lw_all := lw_g (lw_at lw_m2 38 rfl) rfl
theorem q297 : (Jvm.Cond.code ({ cls := "PhraseIndexModel", name := "begins", desc := "(III)I" } : Jvm.MethodName) prog_3_method_21_code (6 : Nat) (Option.some Jvm.ClassFile.FieldType.int)) ∈ lw_all := lw_g (lw_at lw_m2 39 rfl) rfl
theorem q299 : (Jvm.Cond.instanceMethod ({ cls := "PhraseIndexModel", name := "ends", desc := "(III)I" } : Jvm.MethodName)) ∈ lw_all := lw_g (lw_at lw_m2 41 rfl) rfl
theorem q300 : (Jvm.Cond.selects "PhraseIndexModel" ({ cls := "PhraseIndexModel", name := "ends", desc := "(III)I" } : Jvm.MethodName) ({ cls := "PhraseIndexModel", name := "ends", desc := "(III)I" } : Jvm.MethodName)) ∈ lw_all := lw_g (lw_at lw_m2 42 rfl) rfl
theorem q301 : (Jvm.Cond.code ({ cls := "PhraseIndexModel", name := "ends", desc := "(III)I" } : Jvm.MethodName) prog_3_method_22_code (6 : Nat) (Option.some Jvm.ClassFile.FieldType.int)) ∈ lw_all := lw_g (lw_at lw_m2 43 rfl) rfl
theorem q303 : (Jvm.Cond.instanceMethod ({ cls := "PhraseIndexModel", name := "having", desc := "(I)I" } : Jvm.MethodName)) ∈ lw_all := lw_g (lw_at lw_m2 45 rfl) rfl
theorem q304 : (Jvm.Cond.selects "PhraseIndexModel" ({ cls := "PhraseIndexModel", name := "having", desc := "(I)I" } : Jvm.MethodName) ({ cls := "PhraseIndexModel", name := "having", desc := "(I)I" } : Jvm.MethodName)) ∈ lw_all := lw_g (lw_at lw_m2 46 rfl) rfl
theorem q305 : (Jvm.Cond.code ({ cls := "PhraseIndexModel", name := "having", desc := "(I)I" } : Jvm.MethodName) prog_3_method_23_code (4 : Nat) (Option.some Jvm.ClassFile.FieldType.int)) ∈ lw_all := lw_g (lw_at lw_m2 47 rfl) rfl
theorem q307 : (Jvm.Cond.instanceMethod ({ cls := "PhraseIndexModel", name := "frequency", desc := "(I)I" } : Jvm.MethodName)) ∈ lw_all := lw_g (lw_at lw_m2 49 rfl) rfl
theorem q308 : (Jvm.Cond.selects "PhraseIndexModel" ({ cls := "PhraseIndexModel", name := "frequency", desc := "(I)I" } : Jvm.MethodName) ({ cls := "PhraseIndexModel", name := "frequency", desc := "(I)I" } : Jvm.MethodName)) ∈ lw_all := lw_g (lw_at lw_m2 50 rfl) rfl
theorem q309 : (Jvm.Cond.code ({ cls := "PhraseIndexModel", name := "frequency", desc := "(I)I" } : Jvm.MethodName) prog_3_method_24_code (4 : Nat) (Option.some Jvm.ClassFile.FieldType.int)) ∈ lw_all := lw_g (lw_at lw_m2 51 rfl) rfl
theorem q311 : (Jvm.Cond.instanceMethod ({ cls := "PhraseIndexModel", name := "hasTokens", desc := "()I" } : Jvm.MethodName)) ∈ lw_all := lw_g (lw_at lw_m2 53 rfl) rfl
theorem q312 : (Jvm.Cond.selects "PhraseIndexModel" ({ cls := "PhraseIndexModel", name := "hasTokens", desc := "()I" } : Jvm.MethodName) ({ cls := "PhraseIndexModel", name := "hasTokens", desc := "()I" } : Jvm.MethodName)) ∈ lw_all := lw_g (lw_at lw_m2 54 rfl) rfl
theorem q313 : (Jvm.Cond.code ({ cls := "PhraseIndexModel", name := "hasTokens", desc := "()I" } : Jvm.MethodName) prog_3_method_25_code (3 : Nat) (Option.some Jvm.ClassFile.FieldType.int)) ∈ lw_all := lw_g (lw_at lw_m2 55 rfl) rfl
theorem in_X1 : ∀ w ∈ wsX10, w ∈ lw_all := lw_in wsX10 [201, 203, 205, 207, 209, 211, 213] (by decide +kernel) (by decide +kernel)
theorem q18 : (Jvm.Cond.initialized "PhraseIndexLaw") ∈ lw_all := lw_g (lw_at lw_m1 0 rfl) rfl
theorem q21 : (Jvm.Cond.classLink "PhraseIndexLaw" (7 : Nat) "PhraseIndex") ∈ lw_all := lw_g (lw_at lw_m1 3 rfl) rfl
theorem q23 : (Jvm.Cond.methodLink "PhraseIndexLaw" (9 : Nat) ({ cls := "PhraseIndex", name := "<init>", desc := "()V" } : Jvm.MethodName)) ∈ lw_all := lw_g (lw_at lw_m1 5 rfl) rfl
theorem q66 : (Jvm.Cond.methodLink "PhraseIndexLaw" (13 : Nat) ({ cls := "PhraseIndex", name := "write", desc := "(II)I" } : Jvm.MethodName)) ∈ lw_all := lw_g (lw_at lw_m1 48 rfl) rfl
theorem q76 : (Jvm.Cond.methodLink "PhraseIndexLaw" (18 : Nat) ({ cls := "PhraseIndex", name := "change", desc := "(III)Z" } : Jvm.MethodName)) ∈ lw_all := lw_g (lw_at lw_m1 58 rfl) rfl
theorem q80 : (Jvm.Cond.methodLink "PhraseIndexLaw" (23 : Nat) ({ cls := "PhraseIndex", name := "erase", desc := "(I)Z" } : Jvm.MethodName)) ∈ lw_all := lw_g (lw_at lw_m1 62 rfl) rfl
theorem q84 : (Jvm.Cond.methodLink "PhraseIndexLaw" (28 : Nat) ({ cls := "PhraseIndex", name := "length", desc := "(I)I" } : Jvm.MethodName)) ∈ lw_all := lw_g (lw_at lw_m1 66 rfl) rfl
theorem q88 : (Jvm.Cond.methodLink "PhraseIndexLaw" (33 : Nat) ({ cls := "PhraseIndex", name := "ask", desc := "(I)I" } : Jvm.MethodName)) ∈ lw_all := lw_g (lw_at lw_m1 70 rfl) rfl
theorem q109 : (Jvm.Cond.methodLink "PhraseIndexLaw" (37 : Nat) ({ cls := "PhraseIndex", name := "unask", desc := "()I" } : Jvm.MethodName)) ∈ lw_all := lw_g (lw_at lw_m1 91 rfl) rfl
theorem q113 : (Jvm.Cond.methodLink "PhraseIndexLaw" (42 : Nat) ({ cls := "PhraseIndex", name := "complete", desc := "()Z" } : Jvm.MethodName)) ∈ lw_all := lw_g (lw_at lw_m1 95 rfl) rfl
theorem q117 : (Jvm.Cond.methodLink "PhraseIndexLaw" (47 : Nat) ({ cls := "PhraseIndex", name := "holds", desc := "(I)Z" } : Jvm.MethodName)) ∈ lw_all := lw_g (lw_at lw_m1 99 rfl) rfl
theorem q152 : (Jvm.Cond.methodLink "PhraseIndexLaw" (51 : Nat) ({ cls := "PhraseIndex", name := "matching", desc := "()I" } : Jvm.MethodName)) ∈ lw_all := lw_g (lw_at lw_m1 134 rfl) rfl
theorem q157 : (Jvm.Cond.methodLink "PhraseIndexLaw" (55 : Nat) ({ cls := "PhraseIndex", name := "spans", desc := "(II)I" } : Jvm.MethodName)) ∈ lw_all := lw_g (lw_at lw_m1 139 rfl) rfl
theorem q168 : (Jvm.Cond.methodLink "PhraseIndexLaw" (59 : Nat) ({ cls := "PhraseIndex", name := "begins", desc := "(III)I" } : Jvm.MethodName)) ∈ lw_all := lw_g (lw_at lw_m1 150 rfl) rfl
theorem q172 : (Jvm.Cond.methodLink "PhraseIndexLaw" (64 : Nat) ({ cls := "PhraseIndex", name := "ends", desc := "(III)I" } : Jvm.MethodName)) ∈ lw_all := lw_g (lw_at lw_m1 154 rfl) rfl
theorem q176 : (Jvm.Cond.methodLink "PhraseIndexLaw" (68 : Nat) ({ cls := "PhraseIndex", name := "having", desc := "(I)I" } : Jvm.MethodName)) ∈ lw_all := lw_g (lw_at lw_m1 158 rfl) rfl
theorem q180 : (Jvm.Cond.methodLink "PhraseIndexLaw" (72 : Nat) ({ cls := "PhraseIndex", name := "frequency", desc := "(I)I" } : Jvm.MethodName)) ∈ lw_all := lw_g (lw_at lw_m1 162 rfl) rfl
theorem q184 : (Jvm.Cond.methodLink "PhraseIndexLaw" (76 : Nat) ({ cls := "PhraseIndex", name := "hasTokens", desc := "()I" } : Jvm.MethodName)) ∈ lw_all := lw_g (lw_at lw_m1 166 rfl) rfl
theorem q188 : (Jvm.Cond.classLink "PhraseIndexLaw" (10 : Nat) "PhraseIndexModel") ∈ lw_all := lw_g (lw_at lw_m1 170 rfl) rfl
theorem q190 : (Jvm.Cond.methodLink "PhraseIndexLaw" (12 : Nat) ({ cls := "PhraseIndexModel", name := "<init>", desc := "()V" } : Jvm.MethodName)) ∈ lw_all := lw_g (lw_at lw_m1 172 rfl) rfl
theorem q216 : (Jvm.Cond.methodLink "PhraseIndexLaw" (17 : Nat) ({ cls := "PhraseIndexModel", name := "write", desc := "(II)I" } : Jvm.MethodName)) ∈ lw_all := lw_g (lw_at lw_m1 198 rfl) rfl
theorem q224 : (Jvm.Cond.methodLink "PhraseIndexLaw" (22 : Nat) ({ cls := "PhraseIndexModel", name := "change", desc := "(III)Z" } : Jvm.MethodName)) ∈ lw_all := lw_g (lw_at lw_m1 206 rfl) rfl
theorem q228 : (Jvm.Cond.methodLink "PhraseIndexLaw" (27 : Nat) ({ cls := "PhraseIndexModel", name := "erase", desc := "(I)Z" } : Jvm.MethodName)) ∈ lw_all := lw_g (lw_at lw_m1 210 rfl) rfl
theorem q232 : (Jvm.Cond.methodLink "PhraseIndexLaw" (32 : Nat) ({ cls := "PhraseIndexModel", name := "length", desc := "(I)I" } : Jvm.MethodName)) ∈ lw_all := lw_g (lw_at lw_m1 214 rfl) rfl
theorem q236 : (Jvm.Cond.methodLink "PhraseIndexLaw" (36 : Nat) ({ cls := "PhraseIndexModel", name := "ask", desc := "(I)I" } : Jvm.MethodName)) ∈ lw_all := lw_g (lw_at lw_m1 218 rfl) rfl
theorem q248 : (Jvm.Cond.methodLink "PhraseIndexLaw" (41 : Nat) ({ cls := "PhraseIndexModel", name := "unask", desc := "()I" } : Jvm.MethodName)) ∈ lw_all := lw_g (lw_at lw_m1 230 rfl) rfl
theorem q252 : (Jvm.Cond.methodLink "PhraseIndexLaw" (46 : Nat) ({ cls := "PhraseIndexModel", name := "complete", desc := "()Z" } : Jvm.MethodName)) ∈ lw_all := lw_g (lw_at lw_m1 234 rfl) rfl
theorem q256 : (Jvm.Cond.methodLink "PhraseIndexLaw" (50 : Nat) ({ cls := "PhraseIndexModel", name := "holds", desc := "(I)Z" } : Jvm.MethodName)) ∈ lw_all := lw_g (lw_at lw_m1 238 rfl) rfl
theorem q281 : (Jvm.Cond.methodLink "PhraseIndexLaw" (54 : Nat) ({ cls := "PhraseIndexModel", name := "matching", desc := "()I" } : Jvm.MethodName)) ∈ lw_all := lw_g (lw_at lw_m2 23 rfl) rfl
theorem q286 : (Jvm.Cond.methodLink "PhraseIndexLaw" (58 : Nat) ({ cls := "PhraseIndexModel", name := "spans", desc := "(II)I" } : Jvm.MethodName)) ∈ lw_all := lw_g (lw_at lw_m2 28 rfl) rfl
theorem q294 : (Jvm.Cond.methodLink "PhraseIndexLaw" (63 : Nat) ({ cls := "PhraseIndexModel", name := "begins", desc := "(III)I" } : Jvm.MethodName)) ∈ lw_all := lw_g (lw_at lw_m2 36 rfl) rfl
theorem q298 : (Jvm.Cond.methodLink "PhraseIndexLaw" (67 : Nat) ({ cls := "PhraseIndexModel", name := "ends", desc := "(III)I" } : Jvm.MethodName)) ∈ lw_all := lw_g (lw_at lw_m2 40 rfl) rfl
theorem q302 : (Jvm.Cond.methodLink "PhraseIndexLaw" (71 : Nat) ({ cls := "PhraseIndexModel", name := "having", desc := "(I)I" } : Jvm.MethodName)) ∈ lw_all := lw_g (lw_at lw_m2 44 rfl) rfl
theorem q306 : (Jvm.Cond.methodLink "PhraseIndexLaw" (75 : Nat) ({ cls := "PhraseIndexModel", name := "frequency", desc := "(I)I" } : Jvm.MethodName)) ∈ lw_all := lw_g (lw_at lw_m2 48 rfl) rfl
theorem q310 : (Jvm.Cond.methodLink "PhraseIndexLaw" (79 : Nat) ({ cls := "PhraseIndexModel", name := "hasTokens", desc := "()I" } : Jvm.MethodName)) ∈ lw_all := lw_g (lw_at lw_m2 52 rfl) rfl
abbrev vwCl : List vw_C := [(RX0, TX0, 11), (RX1, TX1, 7)]
end
section
set_option maxRecDepth 100000
theorem dX0_init_0 : decode cX0_init 0 = .ok (.aload_n 0, 1) := by decide +kernel
theorem dX0_init_1 : decode cX0_init 1 = .ok (.invokespecial 1, 3) := by decide +kernel
theorem dX0_init_4 : decode cX0_init 4 = .ok (.aload_n 0, 1) := by decide +kernel
theorem dX0_init_5 : decode cX0_init 5 = .ok (.bipush 6, 2) := by decide +kernel
theorem dX0_init_7 : decode cX0_init 7 = .ok (.newarray .byte, 2) := by decide +kernel
theorem dX0_init_9 : decode cX0_init 9 = .ok (.putfield 7, 3) := by decide +kernel
theorem dX0_init_12 : decode cX0_init 12 = .ok (.aload_n 0, 1) := by decide +kernel
theorem dX0_init_13 : decode cX0_init 13 = .ok (.sipush 144, 3) := by decide +kernel
theorem dX0_init_16 : decode cX0_init 16 = .ok (.newarray .byte, 2) := by decide +kernel
theorem dX0_init_18 : decode cX0_init 18 = .ok (.putfield 13, 3) := by decide +kernel
theorem dX0_init_21 : decode cX0_init 21 = .ok (.aload_n 0, 1) := by decide +kernel
theorem dX0_init_22 : decode cX0_init 22 = .ok (.bipush 72, 2) := by decide +kernel
theorem dX0_init_24 : decode cX0_init 24 = .ok (.newarray .int, 2) := by decide +kernel
theorem dX0_init_26 : decode cX0_init 26 = .ok (.putfield 16, 3) := by decide +kernel
theorem dX0_init_29 : decode cX0_init 29 = .ok (.aload_n 0, 1) := by decide +kernel
theorem dX0_init_30 : decode cX0_init 30 = .ok (.bipush 12, 2) := by decide +kernel
theorem dX0_init_32 : decode cX0_init 32 = .ok (.newarray .byte, 2) := by decide +kernel
theorem dX0_init_34 : decode cX0_init 34 = .ok (.putfield 20, 3) := by decide +kernel
theorem dX0_init_37 : decode cX0_init 37 = .ok (.aload_n 0, 1) := by decide +kernel
theorem dX0_init_38 : decode cX0_init 38 = .ok (.bipush 12, 2) := by decide +kernel
theorem dX0_init_40 : decode cX0_init 40 = .ok (.newarray .byte, 2) := by decide +kernel
theorem dX0_init_42 : decode cX0_init 42 = .ok (.putfield 23, 3) := by decide +kernel
theorem dX0_init_45 : decode cX0_init 45 = .ok (.aload_n 0, 1) := by decide +kernel
theorem dX0_init_46 : decode cX0_init 46 = .ok (.bipush 14, 2) := by decide +kernel
theorem dX0_init_48 : decode cX0_init 48 = .ok (.newarray .byte, 2) := by decide +kernel
theorem dX0_init_50 : decode cX0_init 50 = .ok (.putfield 26, 3) := by decide +kernel
theorem dX0_init_53 : decode cX0_init 53 = .ok (.aload_n 0, 1) := by decide +kernel
theorem dX0_init_54 : decode cX0_init 54 = .ok (.bipush 14, 2) := by decide +kernel
theorem dX0_init_56 : decode cX0_init 56 = .ok (.newarray .byte, 2) := by decide +kernel
theorem dX0_init_58 : decode cX0_init 58 = .ok (.putfield 29, 3) := by decide +kernel
theorem dX0_init_61 : decode cX0_init 61 = .ok (.aload_n 0, 1) := by decide +kernel
theorem dX0_init_62 : decode cX0_init 62 = .ok (.sipush 288, 3) := by decide +kernel
theorem dX0_init_65 : decode cX0_init 65 = .ok (.newarray .int, 2) := by decide +kernel
theorem dX0_init_67 : decode cX0_init 67 = .ok (.putfield 32, 3) := by decide +kernel
theorem dX0_init_70 : decode cX0_init 70 = .ok (.aload_n 0, 1) := by decide +kernel
theorem dX0_init_71 : decode cX0_init 71 = .ok (.bipush 12, 2) := by decide +kernel
theorem dX0_init_73 : decode cX0_init 73 = .ok (.newarray .boolean, 2) := by decide +kernel
theorem dX0_init_75 : decode cX0_init 75 = .ok (.putfield 35, 3) := by decide +kernel
theorem dX0_init_78 : decode cX0_init 78 = .ok (.return_, 1) := by decide +kernel
theorem dX0_write_0 : decode cX0_write 0 = .ok (.iload_n 1, 1) := by decide +kernel
theorem dX0_write_1 : decode cX0_write 1 = .ok (.invokestatic 39, 3) := by decide +kernel
theorem dX0_write_4 : decode cX0_write 4 = .ok (.ifCond .eq 10, 3) := by decide +kernel
theorem dX0_write_7 : decode cX0_write 7 = .ok (.iload_n 2, 1) := by decide +kernel
theorem dX0_write_8 : decode cX0_write 8 = .ok (.invokestatic 43, 3) := by decide +kernel
theorem dX0_write_11 : decode cX0_write 11 = .ok (.ifCond .ne 5, 3) := by decide +kernel
theorem dX0_write_14 : decode cX0_write 14 = .ok (.iconst (-1), 1) := by decide +kernel
theorem dX0_write_15 : decode cX0_write 15 = .ok (.ireturn, 1) := by decide +kernel
theorem dX0_write_16 : decode cX0_write 16 = .ok (.aload_n 0, 1) := by decide +kernel
theorem dX0_write_17 : decode cX0_write 17 = .ok (.getfield 7, 3) := by decide +kernel
theorem dX0_write_20 : decode cX0_write 20 = .ok (.iload_n 1, 1) := by decide +kernel
theorem dX0_write_21 : decode cX0_write 21 = .ok (.baload, 1) := by decide +kernel
theorem dX0_write_22 : decode cX0_write 22 = .ok (.bipush 24, 2) := by decide +kernel
theorem dX0_write_24 : decode cX0_write 24 = .ok (.if_icmp .lt 6, 3) := by decide +kernel
theorem dX0_write_27 : decode cX0_write 27 = .ok (.bipush (-2), 2) := by decide +kernel
theorem dX0_write_29 : decode cX0_write 29 = .ok (.ireturn, 1) := by decide +kernel
theorem dX0_write_30 : decode cX0_write 30 = .ok (.aload_n 0, 1) := by decide +kernel
theorem dX0_write_31 : decode cX0_write 31 = .ok (.getfield 7, 3) := by decide +kernel
theorem dX0_write_34 : decode cX0_write 34 = .ok (.iload_n 1, 1) := by decide +kernel
theorem dX0_write_35 : decode cX0_write 35 = .ok (.baload, 1) := by decide +kernel
theorem dX0_write_36 : decode cX0_write 36 = .ok (.istore_n 3, 1) := by decide +kernel
theorem dX0_write_37 : decode cX0_write 37 = .ok (.aload_n 0, 1) := by decide +kernel
theorem dX0_write_38 : decode cX0_write 38 = .ok (.getfield 13, 3) := by decide +kernel
theorem dX0_write_41 : decode cX0_write 41 = .ok (.iload_n 1, 1) := by decide +kernel
theorem dX0_write_42 : decode cX0_write 42 = .ok (.bipush 24, 2) := by decide +kernel
theorem dX0_write_44 : decode cX0_write 44 = .ok (.imul, 1) := by decide +kernel
theorem dX0_write_45 : decode cX0_write 45 = .ok (.iload_n 3, 1) := by decide +kernel
theorem dX0_write_46 : decode cX0_write 46 = .ok (.iadd, 1) := by decide +kernel
theorem dX0_write_47 : decode cX0_write 47 = .ok (.iload_n 2, 1) := by decide +kernel
theorem dX0_write_48 : decode cX0_write 48 = .ok (.i2b, 1) := by decide +kernel
theorem dX0_write_49 : decode cX0_write 49 = .ok (.bastore, 1) := by decide +kernel
theorem dX0_write_50 : decode cX0_write 50 = .ok (.aload_n 0, 1) := by decide +kernel
theorem dX0_write_51 : decode cX0_write 51 = .ok (.getfield 16, 3) := by decide +kernel
theorem dX0_write_54 : decode cX0_write 54 = .ok (.iload_n 1, 1) := by decide +kernel
theorem dX0_write_55 : decode cX0_write 55 = .ok (.bipush 12, 2) := by decide +kernel
theorem dX0_write_57 : decode cX0_write 57 = .ok (.imul, 1) := by decide +kernel
theorem dX0_write_58 : decode cX0_write 58 = .ok (.iload_n 2, 1) := by decide +kernel
theorem dX0_write_59 : decode cX0_write 59 = .ok (.iadd, 1) := by decide +kernel
theorem dX0_write_60 : decode cX0_write 60 = .ok (.dup2, 1) := by decide +kernel
theorem dX0_write_61 : decode cX0_write 61 = .ok (.iaload, 1) := by decide +kernel
theorem dX0_write_62 : decode cX0_write 62 = .ok (.iconst 1, 1) := by decide +kernel
theorem dX0_write_63 : decode cX0_write 63 = .ok (.iload_n 3, 1) := by decide +kernel
theorem dX0_write_64 : decode cX0_write 64 = .ok (.ishl, 1) := by decide +kernel
theorem dX0_write_65 : decode cX0_write 65 = .ok (.ior, 1) := by decide +kernel
theorem dX0_write_66 : decode cX0_write 66 = .ok (.iastore, 1) := by decide +kernel
theorem dX0_write_67 : decode cX0_write 67 = .ok (.aload_n 0, 1) := by decide +kernel
theorem dX0_write_68 : decode cX0_write 68 = .ok (.getfield 7, 3) := by decide +kernel
theorem dX0_write_71 : decode cX0_write 71 = .ok (.iload_n 1, 1) := by decide +kernel
theorem dX0_write_72 : decode cX0_write 72 = .ok (.dup2, 1) := by decide +kernel
theorem dX0_write_73 : decode cX0_write 73 = .ok (.baload, 1) := by decide +kernel
theorem dX0_write_74 : decode cX0_write 74 = .ok (.iconst 1, 1) := by decide +kernel
theorem dX0_write_75 : decode cX0_write 75 = .ok (.iadd, 1) := by decide +kernel
theorem dX0_write_76 : decode cX0_write 76 = .ok (.i2b, 1) := by decide +kernel
theorem dX0_write_77 : decode cX0_write 77 = .ok (.bastore, 1) := by decide +kernel
theorem dX0_write_78 : decode cX0_write 78 = .ok (.iload_n 3, 1) := by decide +kernel
theorem dX0_write_79 : decode cX0_write 79 = .ok (.ireturn, 1) := by decide +kernel
theorem dX0_isDocument_0 : decode cX0_isDocument 0 = .ok (.iload_n 0, 1) := by decide +kernel
theorem dX0_isDocument_1 : decode cX0_isDocument 1 = .ok (.ifCond .lt 13, 3) := by decide +kernel
theorem dX0_isDocument_4 : decode cX0_isDocument 4 = .ok (.iload_n 0, 1) := by decide +kernel
theorem dX0_isDocument_5 : decode cX0_isDocument 5 = .ok (.bipush 6, 2) := by decide +kernel
theorem dX0_isDocument_7 : decode cX0_isDocument 7 = .ok (.if_icmp .ge 7, 3) := by decide +kernel
theorem dX0_isDocument_10 : decode cX0_isDocument 10 = .ok (.iconst 1, 1) := by decide +kernel
theorem dX0_isDocument_11 : decode cX0_isDocument 11 = .ok (.goto 4, 3) := by decide +kernel
theorem dX0_isDocument_14 : decode cX0_isDocument 14 = .ok (.iconst 0, 1) := by decide +kernel
theorem dX0_isDocument_15 : decode cX0_isDocument 15 = .ok (.ireturn, 1) := by decide +kernel
theorem dX0_isWord_0 : decode cX0_isWord 0 = .ok (.iload_n 0, 1) := by decide +kernel
theorem dX0_isWord_1 : decode cX0_isWord 1 = .ok (.ifCond .lt 13, 3) := by decide +kernel
theorem dX0_isWord_4 : decode cX0_isWord 4 = .ok (.iload_n 0, 1) := by decide +kernel
theorem dX0_isWord_5 : decode cX0_isWord 5 = .ok (.bipush 12, 2) := by decide +kernel
theorem dX0_isWord_7 : decode cX0_isWord 7 = .ok (.if_icmp .ge 7, 3) := by decide +kernel
theorem dX0_isWord_10 : decode cX0_isWord 10 = .ok (.iconst 1, 1) := by decide +kernel
theorem dX0_isWord_11 : decode cX0_isWord 11 = .ok (.goto 4, 3) := by decide +kernel
theorem dX0_isWord_14 : decode cX0_isWord 14 = .ok (.iconst 0, 1) := by decide +kernel
theorem dX0_isWord_15 : decode cX0_isWord 15 = .ok (.ireturn, 1) := by decide +kernel
theorem dX0_change_0 : decode cX0_change 0 = .ok (.iload_n 1, 1) := by decide +kernel
theorem dX0_change_1 : decode cX0_change 1 = .ok (.invokestatic 39, 3) := by decide +kernel
theorem dX0_change_4 : decode cX0_change 4 = .ok (.ifCond .eq 24, 3) := by decide +kernel
theorem dX0_change_7 : decode cX0_change 7 = .ok (.iload_n 2, 1) := by decide +kernel
theorem dX0_change_8 : decode cX0_change 8 = .ok (.ifCond .lt 20, 3) := by decide +kernel
theorem dX0_change_11 : decode cX0_change 11 = .ok (.iload_n 2, 1) := by decide +kernel
theorem dX0_change_12 : decode cX0_change 12 = .ok (.aload_n 0, 1) := by decide +kernel
theorem dX0_change_13 : decode cX0_change 13 = .ok (.getfield 7, 3) := by decide +kernel
theorem dX0_change_16 : decode cX0_change 16 = .ok (.iload_n 1, 1) := by decide +kernel
theorem dX0_change_17 : decode cX0_change 17 = .ok (.baload, 1) := by decide +kernel
theorem dX0_change_18 : decode cX0_change 18 = .ok (.if_icmp .ge 10, 3) := by decide +kernel
theorem dX0_change_21 : decode cX0_change 21 = .ok (.iload_n 3, 1) := by decide +kernel
theorem dX0_change_22 : decode cX0_change 22 = .ok (.invokestatic 43, 3) := by decide +kernel
theorem dX0_change_25 : decode cX0_change 25 = .ok (.ifCond .ne 5, 3) := by decide +kernel
theorem dX0_change_28 : decode cX0_change 28 = .ok (.iconst 0, 1) := by decide +kernel
theorem dX0_change_29 : decode cX0_change 29 = .ok (.ireturn, 1) := by decide +kernel
theorem dX0_change_30 : decode cX0_change 30 = .ok (.aload_n 0, 1) := by decide +kernel
theorem dX0_change_31 : decode cX0_change 31 = .ok (.getfield 13, 3) := by decide +kernel
theorem dX0_change_34 : decode cX0_change 34 = .ok (.iload_n 1, 1) := by decide +kernel
theorem dX0_change_35 : decode cX0_change 35 = .ok (.bipush 24, 2) := by decide +kernel
theorem dX0_change_37 : decode cX0_change 37 = .ok (.imul, 1) := by decide +kernel
theorem dX0_change_38 : decode cX0_change 38 = .ok (.iload_n 2, 1) := by decide +kernel
theorem dX0_change_39 : decode cX0_change 39 = .ok (.iadd, 1) := by decide +kernel
theorem dX0_change_40 : decode cX0_change 40 = .ok (.baload, 1) := by decide +kernel
theorem dX0_change_41 : decode cX0_change 41 = .ok (.istore 4, 2) := by decide +kernel
theorem dX0_change_43 : decode cX0_change 43 = .ok (.aload_n 0, 1) := by decide +kernel
theorem dX0_change_44 : decode cX0_change 44 = .ok (.getfield 16, 3) := by decide +kernel
theorem dX0_change_47 : decode cX0_change 47 = .ok (.iload_n 1, 1) := by decide +kernel
theorem dX0_change_48 : decode cX0_change 48 = .ok (.bipush 12, 2) := by decide +kernel
theorem dX0_change_50 : decode cX0_change 50 = .ok (.imul, 1) := by decide +kernel
theorem dX0_change_51 : decode cX0_change 51 = .ok (.iload 4, 2) := by decide +kernel
theorem dX0_change_53 : decode cX0_change 53 = .ok (.iadd, 1) := by decide +kernel
theorem dX0_change_54 : decode cX0_change 54 = .ok (.dup2, 1) := by decide +kernel
theorem dX0_change_55 : decode cX0_change 55 = .ok (.iaload, 1) := by decide +kernel
theorem dX0_change_56 : decode cX0_change 56 = .ok (.iconst 1, 1) := by decide +kernel
theorem dX0_change_57 : decode cX0_change 57 = .ok (.iload_n 2, 1) := by decide +kernel
theorem dX0_change_58 : decode cX0_change 58 = .ok (.ishl, 1) := by decide +kernel
theorem dX0_change_59 : decode cX0_change 59 = .ok (.iconst (-1), 1) := by decide +kernel
theorem dX0_change_60 : decode cX0_change 60 = .ok (.ixor, 1) := by decide +kernel
theorem dX0_change_61 : decode cX0_change 61 = .ok (.iand, 1) := by decide +kernel
theorem dX0_change_62 : decode cX0_change 62 = .ok (.iastore, 1) := by decide +kernel
theorem dX0_change_63 : decode cX0_change 63 = .ok (.aload_n 0, 1) := by decide +kernel
theorem dX0_change_64 : decode cX0_change 64 = .ok (.getfield 13, 3) := by decide +kernel
theorem dX0_change_67 : decode cX0_change 67 = .ok (.iload_n 1, 1) := by decide +kernel
theorem dX0_change_68 : decode cX0_change 68 = .ok (.bipush 24, 2) := by decide +kernel
theorem dX0_change_70 : decode cX0_change 70 = .ok (.imul, 1) := by decide +kernel
theorem dX0_change_71 : decode cX0_change 71 = .ok (.iload_n 2, 1) := by decide +kernel
theorem dX0_change_72 : decode cX0_change 72 = .ok (.iadd, 1) := by decide +kernel
theorem dX0_change_73 : decode cX0_change 73 = .ok (.iload_n 3, 1) := by decide +kernel
theorem dX0_change_74 : decode cX0_change 74 = .ok (.i2b, 1) := by decide +kernel
theorem dX0_change_75 : decode cX0_change 75 = .ok (.bastore, 1) := by decide +kernel
theorem dX0_change_76 : decode cX0_change 76 = .ok (.aload_n 0, 1) := by decide +kernel
theorem dX0_change_77 : decode cX0_change 77 = .ok (.getfield 16, 3) := by decide +kernel
theorem dX0_change_80 : decode cX0_change 80 = .ok (.iload_n 1, 1) := by decide +kernel
theorem dX0_change_81 : decode cX0_change 81 = .ok (.bipush 12, 2) := by decide +kernel
theorem dX0_change_83 : decode cX0_change 83 = .ok (.imul, 1) := by decide +kernel
theorem dX0_change_84 : decode cX0_change 84 = .ok (.iload_n 3, 1) := by decide +kernel
theorem dX0_change_85 : decode cX0_change 85 = .ok (.iadd, 1) := by decide +kernel
theorem dX0_change_86 : decode cX0_change 86 = .ok (.dup2, 1) := by decide +kernel
theorem dX0_change_87 : decode cX0_change 87 = .ok (.iaload, 1) := by decide +kernel
theorem dX0_change_88 : decode cX0_change 88 = .ok (.iconst 1, 1) := by decide +kernel
theorem dX0_change_89 : decode cX0_change 89 = .ok (.iload_n 2, 1) := by decide +kernel
theorem dX0_change_90 : decode cX0_change 90 = .ok (.ishl, 1) := by decide +kernel
theorem dX0_change_91 : decode cX0_change 91 = .ok (.ior, 1) := by decide +kernel
theorem dX0_change_92 : decode cX0_change 92 = .ok (.iastore, 1) := by decide +kernel
theorem dX0_change_93 : decode cX0_change 93 = .ok (.iconst 1, 1) := by decide +kernel
theorem dX0_change_94 : decode cX0_change 94 = .ok (.ireturn, 1) := by decide +kernel
theorem dX0_erase_0 : decode cX0_erase 0 = .ok (.iload_n 1, 1) := by decide +kernel
theorem dX0_erase_1 : decode cX0_erase 1 = .ok (.invokestatic 39, 3) := by decide +kernel
theorem dX0_erase_4 : decode cX0_erase 4 = .ok (.ifCond .ne 5, 3) := by decide +kernel
theorem dX0_erase_7 : decode cX0_erase 7 = .ok (.iconst 0, 1) := by decide +kernel
theorem dX0_erase_8 : decode cX0_erase 8 = .ok (.ireturn, 1) := by decide +kernel
theorem dX0_erase_9 : decode cX0_erase 9 = .ok (.aload_n 0, 1) := by decide +kernel
theorem dX0_erase_10 : decode cX0_erase 10 = .ok (.getfield 7, 3) := by decide +kernel
theorem dX0_erase_13 : decode cX0_erase 13 = .ok (.iload_n 1, 1) := by decide +kernel
theorem dX0_erase_14 : decode cX0_erase 14 = .ok (.iconst 0, 1) := by decide +kernel
theorem dX0_erase_15 : decode cX0_erase 15 = .ok (.bastore, 1) := by decide +kernel
theorem dX0_erase_16 : decode cX0_erase 16 = .ok (.iconst 0, 1) := by decide +kernel
theorem dX0_erase_17 : decode cX0_erase 17 = .ok (.istore_n 2, 1) := by decide +kernel
theorem dX0_erase_18 : decode cX0_erase 18 = .ok (.iload_n 2, 1) := by decide +kernel
theorem dX0_erase_19 : decode cX0_erase 19 = .ok (.bipush 12, 2) := by decide +kernel
theorem dX0_erase_21 : decode cX0_erase 21 = .ok (.if_icmp .ge 21, 3) := by decide +kernel
theorem dX0_erase_24 : decode cX0_erase 24 = .ok (.aload_n 0, 1) := by decide +kernel
theorem dX0_erase_25 : decode cX0_erase 25 = .ok (.getfield 16, 3) := by decide +kernel
theorem dX0_erase_28 : decode cX0_erase 28 = .ok (.iload_n 1, 1) := by decide +kernel
theorem dX0_erase_29 : decode cX0_erase 29 = .ok (.bipush 12, 2) := by decide +kernel
theorem dX0_erase_31 : decode cX0_erase 31 = .ok (.imul, 1) := by decide +kernel
theorem dX0_erase_32 : decode cX0_erase 32 = .ok (.iload_n 2, 1) := by decide +kernel
theorem dX0_erase_33 : decode cX0_erase 33 = .ok (.iadd, 1) := by decide +kernel
theorem dX0_erase_34 : decode cX0_erase 34 = .ok (.iconst 0, 1) := by decide +kernel
theorem dX0_erase_35 : decode cX0_erase 35 = .ok (.iastore, 1) := by decide +kernel
theorem dX0_erase_36 : decode cX0_erase 36 = .ok (.iinc 2 1, 3) := by decide +kernel
theorem dX0_erase_39 : decode cX0_erase 39 = .ok (.goto (-21), 3) := by decide +kernel
theorem dX0_erase_42 : decode cX0_erase 42 = .ok (.iconst 1, 1) := by decide +kernel
theorem dX0_erase_43 : decode cX0_erase 43 = .ok (.ireturn, 1) := by decide +kernel
theorem dX0_length_0 : decode cX0_length 0 = .ok (.iload_n 1, 1) := by decide +kernel
theorem dX0_length_1 : decode cX0_length 1 = .ok (.invokestatic 39, 3) := by decide +kernel
theorem dX0_length_4 : decode cX0_length 4 = .ok (.ifCond .eq 12, 3) := by decide +kernel
theorem dX0_length_7 : decode cX0_length 7 = .ok (.aload_n 0, 1) := by decide +kernel
theorem dX0_length_8 : decode cX0_length 8 = .ok (.getfield 7, 3) := by decide +kernel
theorem dX0_length_11 : decode cX0_length 11 = .ok (.iload_n 1, 1) := by decide +kernel
theorem dX0_length_12 : decode cX0_length 12 = .ok (.baload, 1) := by decide +kernel
theorem dX0_length_13 : decode cX0_length 13 = .ok (.goto 4, 3) := by decide +kernel
theorem dX0_length_16 : decode cX0_length 16 = .ok (.iconst (-1), 1) := by decide +kernel
theorem dX0_length_17 : decode cX0_length 17 = .ok (.ireturn, 1) := by decide +kernel
theorem dX0_ask_0 : decode cX0_ask 0 = .ok (.aload_n 0, 1) := by decide +kernel
theorem dX0_ask_1 : decode cX0_ask 1 = .ok (.invokevirtual 46, 3) := by decide +kernel
theorem dX0_ask_4 : decode cX0_ask 4 = .ok (.aload_n 0, 1) := by decide +kernel
theorem dX0_ask_5 : decode cX0_ask 5 = .ok (.getfield 49, 3) := by decide +kernel
theorem dX0_ask_8 : decode cX0_ask 8 = .ok (.bipush 12, 2) := by decide +kernel
theorem dX0_ask_10 : decode cX0_ask 10 = .ok (.if_icmp .ge 17, 3) := by decide +kernel
theorem dX0_ask_13 : decode cX0_ask 13 = .ok (.aload_n 0, 1) := by decide +kernel
theorem dX0_ask_14 : decode cX0_ask 14 = .ok (.getfield 49, 3) := by decide +kernel
theorem dX0_ask_17 : decode cX0_ask 17 = .ok (.ifCond .le 13, 3) := by decide +kernel
theorem dX0_ask_20 : decode cX0_ask 20 = .ok (.aload_n 0, 1) := by decide +kernel
theorem dX0_ask_21 : decode cX0_ask 21 = .ok (.getfield 53, 3) := by decide +kernel
theorem dX0_ask_24 : decode cX0_ask 24 = .ok (.ifCond .ne 6, 3) := by decide +kernel
theorem dX0_ask_27 : decode cX0_ask 27 = .ok (.bipush (-2), 2) := by decide +kernel
theorem dX0_ask_29 : decode cX0_ask 29 = .ok (.ireturn, 1) := by decide +kernel
theorem dX0_ask_30 : decode cX0_ask 30 = .ok (.aload_n 0, 1) := by decide +kernel
theorem dX0_ask_31 : decode cX0_ask 31 = .ok (.getfield 53, 3) := by decide +kernel
theorem dX0_ask_34 : decode cX0_ask 34 = .ok (.ifCond .le 22, 3) := by decide +kernel
theorem dX0_ask_37 : decode cX0_ask 37 = .ok (.aload_n 0, 1) := by decide +kernel
theorem dX0_ask_38 : decode cX0_ask 38 = .ok (.getfield 20, 3) := by decide +kernel
theorem dX0_ask_41 : decode cX0_ask 41 = .ok (.aload_n 0, 1) := by decide +kernel
theorem dX0_ask_42 : decode cX0_ask 42 = .ok (.getfield 26, 3) := by decide +kernel
theorem dX0_ask_45 : decode cX0_ask 45 = .ok (.aload_n 0, 1) := by decide +kernel
theorem dX0_ask_46 : decode cX0_ask 46 = .ok (.getfield 53, 3) := by decide +kernel
theorem dX0_ask_49 : decode cX0_ask 49 = .ok (.iconst 1, 1) := by decide +kernel
theorem dX0_ask_50 : decode cX0_ask 50 = .ok (.isub, 1) := by decide +kernel
theorem dX0_ask_51 : decode cX0_ask 51 = .ok (.baload, 1) := by decide +kernel
theorem dX0_ask_52 : decode cX0_ask 52 = .ok (.baload, 1) := by decide +kernel
theorem dX0_ask_53 : decode cX0_ask 53 = .ok (.goto 5, 3) := by decide +kernel
theorem dX0_ask_56 : decode cX0_ask 56 = .ok (.bipush 20, 2) := by decide +kernel
theorem dX0_ask_58 : decode cX0_ask 58 = .ok (.istore_n 2, 1) := by decide +kernel
theorem dX0_ask_59 : decode cX0_ask 59 = .ok (.iload_n 2, 1) := by decide +kernel
theorem dX0_ask_60 : decode cX0_ask 60 = .ok (.bipush 23, 2) := by decide +kernel
theorem dX0_ask_62 : decode cX0_ask 62 = .ok (.if_icmp .eq 10, 3) := by decide +kernel
theorem dX0_ask_65 : decode cX0_ask 65 = .ok (.iload_n 2, 1) := by decide +kernel
theorem dX0_ask_66 : decode cX0_ask 66 = .ok (.invokestatic 56, 3) := by decide +kernel
theorem dX0_ask_69 : decode cX0_ask 69 = .ok (.ifCond .eq 7, 3) := by decide +kernel
theorem dX0_ask_72 : decode cX0_ask 72 = .ok (.iconst 1, 1) := by decide +kernel
theorem dX0_ask_73 : decode cX0_ask 73 = .ok (.goto 4, 3) := by decide +kernel
theorem dX0_ask_76 : decode cX0_ask 76 = .ok (.iconst 0, 1) := by decide +kernel
theorem dX0_ask_77 : decode cX0_ask 77 = .ok (.istore_n 3, 1) := by decide +kernel
theorem dX0_ask_78 : decode cX0_ask 78 = .ok (.iload_n 3, 1) := by decide +kernel
theorem dX0_ask_79 : decode cX0_ask 79 = .ok (.ifCond .eq 10, 3) := by decide +kernel
theorem dX0_ask_82 : decode cX0_ask 82 = .ok (.iload_n 1, 1) := by decide +kernel
theorem dX0_ask_83 : decode cX0_ask 83 = .ok (.invokestatic 56, 3) := by decide +kernel
theorem dX0_ask_86 : decode cX0_ask 86 = .ok (.goto 7, 3) := by decide +kernel
theorem dX0_ask_89 : decode cX0_ask 89 = .ok (.iload_n 1, 1) := by decide +kernel
theorem dX0_ask_90 : decode cX0_ask 90 = .ok (.invokestatic 59, 3) := by decide +kernel
theorem dX0_ask_93 : decode cX0_ask 93 = .ok (.istore 4, 2) := by decide +kernel
theorem dX0_ask_95 : decode cX0_ask 95 = .ok (.iload 4, 2) := by decide +kernel
theorem dX0_ask_97 : decode cX0_ask 97 = .ok (.ifCond .ne 5, 3) := by decide +kernel
theorem dX0_ask_100 : decode cX0_ask 100 = .ok (.iconst (-1), 1) := by decide +kernel
theorem dX0_ask_101 : decode cX0_ask 101 = .ok (.ireturn, 1) := by decide +kernel
theorem dX0_ask_102 : decode cX0_ask 102 = .ok (.aload_n 0, 1) := by decide +kernel
theorem dX0_ask_103 : decode cX0_ask 103 = .ok (.getfield 20, 3) := by decide +kernel
theorem dX0_ask_106 : decode cX0_ask 106 = .ok (.aload_n 0, 1) := by decide +kernel
theorem dX0_ask_107 : decode cX0_ask 107 = .ok (.getfield 49, 3) := by decide +kernel
theorem dX0_ask_110 : decode cX0_ask 110 = .ok (.iload_n 1, 1) := by decide +kernel
theorem dX0_ask_111 : decode cX0_ask 111 = .ok (.i2b, 1) := by decide +kernel
theorem dX0_ask_112 : decode cX0_ask 112 = .ok (.bastore, 1) := by decide +kernel
theorem dX0_ask_113 : decode cX0_ask 113 = .ok (.aload_n 0, 1) := by decide +kernel
theorem dX0_ask_114 : decode cX0_ask 114 = .ok (.dup, 1) := by decide +kernel
theorem dX0_ask_115 : decode cX0_ask 115 = .ok (.getfield 49, 3) := by decide +kernel
theorem dX0_ask_118 : decode cX0_ask 118 = .ok (.iconst 1, 1) := by decide +kernel
theorem dX0_ask_119 : decode cX0_ask 119 = .ok (.iadd, 1) := by decide +kernel
theorem dX0_ask_120 : decode cX0_ask 120 = .ok (.putfield 49, 3) := by decide +kernel
theorem dX0_ask_123 : decode cX0_ask 123 = .ok (.aload_n 0, 1) := by decide +kernel
theorem dX0_ask_124 : decode cX0_ask 124 = .ok (.getfield 49, 3) := by decide +kernel
theorem dX0_ask_127 : decode cX0_ask 127 = .ok (.ireturn, 1) := by decide +kernel
theorem dX0_read_0 : decode cX0_read 0 = .ok (.aload_n 0, 1) := by decide +kernel
theorem dX0_read_1 : decode cX0_read 1 = .ok (.iconst 0, 1) := by decide +kernel
theorem dX0_read_2 : decode cX0_read 2 = .ok (.putfield 53, 3) := by decide +kernel
theorem dX0_read_5 : decode cX0_read 5 = .ok (.iconst 0, 1) := by decide +kernel
theorem dX0_read_6 : decode cX0_read 6 = .ok (.istore_n 1, 1) := by decide +kernel
theorem dX0_read_7 : decode cX0_read 7 = .ok (.iload_n 1, 1) := by decide +kernel
theorem dX0_read_8 : decode cX0_read 8 = .ok (.aload_n 0, 1) := by decide +kernel
theorem dX0_read_9 : decode cX0_read 9 = .ok (.getfield 49, 3) := by decide +kernel
theorem dX0_read_12 : decode cX0_read 12 = .ok (.if_icmp .ge 67, 3) := by decide +kernel
theorem dX0_read_15 : decode cX0_read 15 = .ok (.aload_n 0, 1) := by decide +kernel
theorem dX0_read_16 : decode cX0_read 16 = .ok (.getfield 53, 3) := by decide +kernel
theorem dX0_read_19 : decode cX0_read 19 = .ok (.ifCond .le 8, 3) := by decide +kernel
theorem dX0_read_22 : decode cX0_read 22 = .ok (.aload_n 0, 1) := by decide +kernel
theorem dX0_read_23 : decode cX0_read 23 = .ok (.iload_n 1, 1) := by decide +kernel
theorem dX0_read_24 : decode cX0_read 24 = .ok (.invokevirtual 62, 3) := by decide +kernel
theorem dX0_read_27 : decode cX0_read 27 = .ok (.aload_n 0, 1) := by decide +kernel
theorem dX0_read_28 : decode cX0_read 28 = .ok (.getfield 20, 3) := by decide +kernel
theorem dX0_read_31 : decode cX0_read 31 = .ok (.iload_n 1, 1) := by decide +kernel
theorem dX0_read_32 : decode cX0_read 32 = .ok (.baload, 1) := by decide +kernel
theorem dX0_read_33 : decode cX0_read 33 = .ok (.invokestatic 66, 3) := by decide +kernel
theorem dX0_read_36 : decode cX0_read 36 = .ok (.istore_n 2, 1) := by decide +kernel
theorem dX0_read_37 : decode cX0_read 37 = .ok (.iload_n 2, 1) := by decide +kernel
theorem dX0_read_38 : decode cX0_read 38 = .ok (.ifCond .le 35, 3) := by decide +kernel
theorem dX0_read_41 : decode cX0_read 41 = .ok (.aload_n 0, 1) := by decide +kernel
theorem dX0_read_42 : decode cX0_read 42 = .ok (.getfield 26, 3) := by decide +kernel
theorem dX0_read_45 : decode cX0_read 45 = .ok (.aload_n 0, 1) := by decide +kernel
theorem dX0_read_46 : decode cX0_read 46 = .ok (.getfield 53, 3) := by decide +kernel
theorem dX0_read_49 : decode cX0_read 49 = .ok (.iload_n 1, 1) := by decide +kernel
theorem dX0_read_50 : decode cX0_read 50 = .ok (.i2b, 1) := by decide +kernel
theorem dX0_read_51 : decode cX0_read 51 = .ok (.bastore, 1) := by decide +kernel
theorem dX0_read_52 : decode cX0_read 52 = .ok (.aload_n 0, 1) := by decide +kernel
theorem dX0_read_53 : decode cX0_read 53 = .ok (.getfield 29, 3) := by decide +kernel
theorem dX0_read_56 : decode cX0_read 56 = .ok (.aload_n 0, 1) := by decide +kernel
theorem dX0_read_57 : decode cX0_read 57 = .ok (.getfield 53, 3) := by decide +kernel
theorem dX0_read_60 : decode cX0_read 60 = .ok (.iload_n 2, 1) := by decide +kernel
theorem dX0_read_61 : decode cX0_read 61 = .ok (.i2b, 1) := by decide +kernel
theorem dX0_read_62 : decode cX0_read 62 = .ok (.bastore, 1) := by decide +kernel
theorem dX0_read_63 : decode cX0_read 63 = .ok (.aload_n 0, 1) := by decide +kernel
theorem dX0_read_64 : decode cX0_read 64 = .ok (.dup, 1) := by decide +kernel
theorem dX0_read_65 : decode cX0_read 65 = .ok (.getfield 53, 3) := by decide +kernel
theorem dX0_read_68 : decode cX0_read 68 = .ok (.iconst 1, 1) := by decide +kernel
theorem dX0_read_69 : decode cX0_read 69 = .ok (.iadd, 1) := by decide +kernel
theorem dX0_read_70 : decode cX0_read 70 = .ok (.putfield 53, 3) := by decide +kernel
theorem dX0_read_73 : decode cX0_read 73 = .ok (.iinc 1 1, 3) := by decide +kernel
theorem dX0_read_76 : decode cX0_read 76 = .ok (.goto (-69), 3) := by decide +kernel
theorem dX0_read_79 : decode cX0_read 79 = .ok (.return_, 1) := by decide +kernel
theorem dX0_attach_0 : decode cX0_attach 0 = .ok (.aload_n 0, 1) := by decide +kernel
theorem dX0_attach_1 : decode cX0_attach 1 = .ok (.getfield 53, 3) := by decide +kernel
theorem dX0_attach_4 : decode cX0_attach 4 = .ok (.iconst 1, 1) := by decide +kernel
theorem dX0_attach_5 : decode cX0_attach 5 = .ok (.isub, 1) := by decide +kernel
theorem dX0_attach_6 : decode cX0_attach 6 = .ok (.istore_n 2, 1) := by decide +kernel
theorem dX0_attach_7 : decode cX0_attach 7 = .ok (.iload_n 1, 1) := by decide +kernel
theorem dX0_attach_8 : decode cX0_attach 8 = .ok (.aload_n 0, 1) := by decide +kernel
theorem dX0_attach_9 : decode cX0_attach 9 = .ok (.getfield 26, 3) := by decide +kernel
theorem dX0_attach_12 : decode cX0_attach 12 = .ok (.iload_n 2, 1) := by decide +kernel
theorem dX0_attach_13 : decode cX0_attach 13 = .ok (.baload, 1) := by decide +kernel
theorem dX0_attach_14 : decode cX0_attach 14 = .ok (.iconst 1, 1) := by decide +kernel
theorem dX0_attach_15 : decode cX0_attach 15 = .ok (.iadd, 1) := by decide +kernel
theorem dX0_attach_16 : decode cX0_attach 16 = .ok (.if_icmp .eq 16, 3) := by decide +kernel
theorem dX0_attach_19 : decode cX0_attach 19 = .ok (.aload_n 0, 1) := by decide +kernel
theorem dX0_attach_20 : decode cX0_attach 20 = .ok (.getfield 23, 3) := by decide +kernel
theorem dX0_attach_23 : decode cX0_attach 23 = .ok (.aload_n 0, 1) := by decide +kernel
theorem dX0_attach_24 : decode cX0_attach 24 = .ok (.getfield 26, 3) := by decide +kernel
theorem dX0_attach_27 : decode cX0_attach 27 = .ok (.iload_n 2, 1) := by decide +kernel
theorem dX0_attach_28 : decode cX0_attach 28 = .ok (.baload, 1) := by decide +kernel
theorem dX0_attach_29 : decode cX0_attach 29 = .ok (.iload_n 1, 1) := by decide +kernel
theorem dX0_attach_30 : decode cX0_attach 30 = .ok (.i2b, 1) := by decide +kernel
theorem dX0_attach_31 : decode cX0_attach 31 = .ok (.bastore, 1) := by decide +kernel
theorem dX0_attach_32 : decode cX0_attach 32 = .ok (.aload_n 0, 1) := by decide +kernel
theorem dX0_attach_33 : decode cX0_attach 33 = .ok (.getfield 29, 3) := by decide +kernel
theorem dX0_attach_36 : decode cX0_attach 36 = .ok (.iload_n 2, 1) := by decide +kernel
theorem dX0_attach_37 : decode cX0_attach 37 = .ok (.dup2, 1) := by decide +kernel
theorem dX0_attach_38 : decode cX0_attach 38 = .ok (.baload, 1) := by decide +kernel
theorem dX0_attach_39 : decode cX0_attach 39 = .ok (.iconst 1, 1) := by decide +kernel
theorem dX0_attach_40 : decode cX0_attach 40 = .ok (.isub, 1) := by decide +kernel
theorem dX0_attach_41 : decode cX0_attach 41 = .ok (.i2b, 1) := by decide +kernel
theorem dX0_attach_42 : decode cX0_attach 42 = .ok (.bastore, 1) := by decide +kernel
theorem dX0_attach_43 : decode cX0_attach 43 = .ok (.aload_n 0, 1) := by decide +kernel
theorem dX0_attach_44 : decode cX0_attach 44 = .ok (.getfield 29, 3) := by decide +kernel
theorem dX0_attach_47 : decode cX0_attach 47 = .ok (.iload_n 2, 1) := by decide +kernel
theorem dX0_attach_48 : decode cX0_attach 48 = .ok (.baload, 1) := by decide +kernel
theorem dX0_attach_49 : decode cX0_attach 49 = .ok (.ifCond .ne 13, 3) := by decide +kernel
theorem dX0_attach_52 : decode cX0_attach 52 = .ok (.aload_n 0, 1) := by decide +kernel
theorem dX0_attach_53 : decode cX0_attach 53 = .ok (.dup, 1) := by decide +kernel
theorem dX0_attach_54 : decode cX0_attach 54 = .ok (.getfield 53, 3) := by decide +kernel
theorem dX0_attach_57 : decode cX0_attach 57 = .ok (.iconst 1, 1) := by decide +kernel
theorem dX0_attach_58 : decode cX0_attach 58 = .ok (.isub, 1) := by decide +kernel
theorem dX0_attach_59 : decode cX0_attach 59 = .ok (.putfield 53, 3) := by decide +kernel
theorem dX0_attach_62 : decode cX0_attach 62 = .ok (.return_, 1) := by decide +kernel
theorem dX0_wants_0 : decode cX0_wants 0 = .ok (.iload_n 0, 1) := by decide +kernel
theorem dX0_wants_1 : decode cX0_wants 1 = .ok (.bipush 12, 2) := by decide +kernel
theorem dX0_wants_3 : decode cX0_wants 3 = .ok (.if_icmp .ge 5, 3) := by decide +kernel
theorem dX0_wants_6 : decode cX0_wants 6 = .ok (.iconst 0, 1) := by decide +kernel
theorem dX0_wants_7 : decode cX0_wants 7 = .ok (.ireturn, 1) := by decide +kernel
theorem dX0_wants_8 : decode cX0_wants 8 = .ok (.iload_n 0, 1) := by decide +kernel
theorem dX0_wants_9 : decode cX0_wants 9 = .ok (.bipush 22, 2) := by decide +kernel
theorem dX0_wants_11 : decode cX0_wants 11 = .ok (.if_icmp .eq 9, 3) := by decide +kernel
theorem dX0_wants_14 : decode cX0_wants 14 = .ok (.iload_n 0, 1) := by decide +kernel
theorem dX0_wants_15 : decode cX0_wants 15 = .ok (.bipush 23, 2) := by decide +kernel
theorem dX0_wants_17 : decode cX0_wants 17 = .ok (.if_icmp .ne 7, 3) := by decide +kernel
theorem dX0_wants_20 : decode cX0_wants 20 = .ok (.iconst 1, 1) := by decide +kernel
theorem dX0_wants_21 : decode cX0_wants 21 = .ok (.goto 4, 3) := by decide +kernel
theorem dX0_wants_24 : decode cX0_wants 24 = .ok (.iconst 2, 1) := by decide +kernel
theorem dX0_wants_25 : decode cX0_wants 25 = .ok (.ireturn, 1) := by decide +kernel
theorem dX0_isSpan_0 : decode cX0_isSpan 0 = .ok (.iload_n 0, 1) := by decide +kernel
theorem dX0_isSpan_1 : decode cX0_isSpan 1 = .ok (.ifCond .lt 13, 3) := by decide +kernel
theorem dX0_isSpan_4 : decode cX0_isSpan 4 = .ok (.iload_n 0, 1) := by decide +kernel
theorem dX0_isSpan_5 : decode cX0_isSpan 5 = .ok (.bipush 18, 2) := by decide +kernel
theorem dX0_isSpan_7 : decode cX0_isSpan 7 = .ok (.if_icmp .gt 7, 3) := by decide +kernel
theorem dX0_isSpan_10 : decode cX0_isSpan 10 = .ok (.iconst 1, 1) := by decide +kernel
theorem dX0_isSpan_11 : decode cX0_isSpan 11 = .ok (.goto 4, 3) := by decide +kernel
theorem dX0_isSpan_14 : decode cX0_isSpan 14 = .ok (.iconst 0, 1) := by decide +kernel
theorem dX0_isSpan_15 : decode cX0_isSpan 15 = .ok (.ireturn, 1) := by decide +kernel
theorem dX0_isCondition_0 : decode cX0_isCondition 0 = .ok (.iload_n 0, 1) := by decide +kernel
theorem dX0_isCondition_1 : decode cX0_isCondition 1 = .ok (.bipush 20, 2) := by decide +kernel
theorem dX0_isCondition_3 : decode cX0_isCondition 3 = .ok (.if_icmp .lt 13, 3) := by decide +kernel
theorem dX0_isCondition_6 : decode cX0_isCondition 6 = .ok (.iload_n 0, 1) := by decide +kernel
theorem dX0_isCondition_7 : decode cX0_isCondition 7 = .ok (.bipush 23, 2) := by decide +kernel
theorem dX0_isCondition_9 : decode cX0_isCondition 9 = .ok (.if_icmp .gt 7, 3) := by decide +kernel
theorem dX0_isCondition_12 : decode cX0_isCondition 12 = .ok (.iconst 1, 1) := by decide +kernel
theorem dX0_isCondition_13 : decode cX0_isCondition 13 = .ok (.goto 4, 3) := by decide +kernel
theorem dX0_isCondition_16 : decode cX0_isCondition 16 = .ok (.iconst 0, 1) := by decide +kernel
theorem dX0_isCondition_17 : decode cX0_isCondition 17 = .ok (.ireturn, 1) := by decide +kernel
theorem dX0_unask_0 : decode cX0_unask 0 = .ok (.aload_n 0, 1) := by decide +kernel
theorem dX0_unask_1 : decode cX0_unask 1 = .ok (.getfield 49, 3) := by decide +kernel
theorem dX0_unask_4 : decode cX0_unask 4 = .ok (.ifCond .ne 5, 3) := by decide +kernel
theorem dX0_unask_7 : decode cX0_unask 7 = .ok (.iconst (-1), 1) := by decide +kernel
theorem dX0_unask_8 : decode cX0_unask 8 = .ok (.ireturn, 1) := by decide +kernel
theorem dX0_unask_9 : decode cX0_unask 9 = .ok (.aload_n 0, 1) := by decide +kernel
theorem dX0_unask_10 : decode cX0_unask 10 = .ok (.dup, 1) := by decide +kernel
theorem dX0_unask_11 : decode cX0_unask 11 = .ok (.getfield 49, 3) := by decide +kernel
theorem dX0_unask_14 : decode cX0_unask 14 = .ok (.iconst 1, 1) := by decide +kernel
theorem dX0_unask_15 : decode cX0_unask 15 = .ok (.isub, 1) := by decide +kernel
theorem dX0_unask_16 : decode cX0_unask 16 = .ok (.putfield 49, 3) := by decide +kernel
theorem dX0_unask_19 : decode cX0_unask 19 = .ok (.aload_n 0, 1) := by decide +kernel
theorem dX0_unask_20 : decode cX0_unask 20 = .ok (.getfield 20, 3) := by decide +kernel
theorem dX0_unask_23 : decode cX0_unask 23 = .ok (.aload_n 0, 1) := by decide +kernel
theorem dX0_unask_24 : decode cX0_unask 24 = .ok (.getfield 49, 3) := by decide +kernel
theorem dX0_unask_27 : decode cX0_unask 27 = .ok (.baload, 1) := by decide +kernel
theorem dX0_unask_28 : decode cX0_unask 28 = .ok (.ireturn, 1) := by decide +kernel
theorem dX0_complete_0 : decode cX0_complete 0 = .ok (.aload_n 0, 1) := by decide +kernel
theorem dX0_complete_1 : decode cX0_complete 1 = .ok (.invokevirtual 46, 3) := by decide +kernel
theorem dX0_complete_4 : decode cX0_complete 4 = .ok (.aload_n 0, 1) := by decide +kernel
theorem dX0_complete_5 : decode cX0_complete 5 = .ok (.getfield 49, 3) := by decide +kernel
theorem dX0_complete_8 : decode cX0_complete 8 = .ok (.ifCond .le 14, 3) := by decide +kernel
theorem dX0_complete_11 : decode cX0_complete 11 = .ok (.aload_n 0, 1) := by decide +kernel
theorem dX0_complete_12 : decode cX0_complete 12 = .ok (.getfield 53, 3) := by decide +kernel
theorem dX0_complete_15 : decode cX0_complete 15 = .ok (.ifCond .ne 7, 3) := by decide +kernel
theorem dX0_complete_18 : decode cX0_complete 18 = .ok (.iconst 1, 1) := by decide +kernel
theorem dX0_complete_19 : decode cX0_complete 19 = .ok (.goto 4, 3) := by decide +kernel
theorem dX0_complete_22 : decode cX0_complete 22 = .ok (.iconst 0, 1) := by decide +kernel
theorem dX0_complete_23 : decode cX0_complete 23 = .ok (.ireturn, 1) := by decide +kernel
theorem dX0_holds_0 : decode cX0_holds 0 = .ok (.iload_n 1, 1) := by decide +kernel
theorem dX0_holds_1 : decode cX0_holds 1 = .ok (.invokestatic 39, 3) := by decide +kernel
theorem dX0_holds_4 : decode cX0_holds 4 = .ok (.ifCond .eq 24, 3) := by decide +kernel
theorem dX0_holds_7 : decode cX0_holds 7 = .ok (.aload_n 0, 1) := by decide +kernel
theorem dX0_holds_8 : decode cX0_holds 8 = .ok (.iload_n 1, 1) := by decide +kernel
theorem dX0_holds_9 : decode cX0_holds 9 = .ok (.invokevirtual 99, 3) := by decide +kernel
theorem dX0_holds_12 : decode cX0_holds 12 = .ok (.ifCond .eq 16, 3) := by decide +kernel
theorem dX0_holds_15 : decode cX0_holds 15 = .ok (.aload_n 0, 1) := by decide +kernel
theorem dX0_holds_16 : decode cX0_holds 16 = .ok (.getfield 35, 3) := by decide +kernel
theorem dX0_holds_19 : decode cX0_holds 19 = .ok (.iconst 0, 1) := by decide +kernel
theorem dX0_holds_20 : decode cX0_holds 20 = .ok (.baload, 1) := by decide +kernel
theorem dX0_holds_21 : decode cX0_holds 21 = .ok (.ifCond .eq 7, 3) := by decide +kernel
theorem dX0_holds_24 : decode cX0_holds 24 = .ok (.iconst 1, 1) := by decide +kernel
theorem dX0_holds_25 : decode cX0_holds 25 = .ok (.goto 4, 3) := by decide +kernel
theorem dX0_holds_28 : decode cX0_holds 28 = .ok (.iconst 0, 1) := by decide +kernel
theorem dX0_holds_29 : decode cX0_holds 29 = .ok (.ireturn, 1) := by decide +kernel
theorem dX0_work_0 : decode cX0_work 0 = .ok (.aload_n 0, 1) := by decide +kernel
theorem dX0_work_1 : decode cX0_work 1 = .ok (.invokevirtual 70, 3) := by decide +kernel
theorem dX0_work_4 : decode cX0_work 4 = .ok (.ifCond .ne 5, 3) := by decide +kernel
theorem dX0_work_7 : decode cX0_work 7 = .ok (.iconst 0, 1) := by decide +kernel
theorem dX0_work_8 : decode cX0_work 8 = .ok (.ireturn, 1) := by decide +kernel
theorem dX0_work_9 : decode cX0_work 9 = .ok (.aload_n 0, 1) := by decide +kernel
theorem dX0_work_10 : decode cX0_work 10 = .ok (.getfield 49, 3) := by decide +kernel
theorem dX0_work_13 : decode cX0_work 13 = .ok (.iconst 1, 1) := by decide +kernel
theorem dX0_work_14 : decode cX0_work 14 = .ok (.isub, 1) := by decide +kernel
theorem dX0_work_15 : decode cX0_work 15 = .ok (.istore_n 2, 1) := by decide +kernel
theorem dX0_work_16 : decode cX0_work 16 = .ok (.iload_n 2, 1) := by decide +kernel
theorem dX0_work_17 : decode cX0_work 17 = .ok (.ifCond .lt 69, 3) := by decide +kernel
theorem dX0_work_20 : decode cX0_work 20 = .ok (.aload_n 0, 1) := by decide +kernel
theorem dX0_work_21 : decode cX0_work 21 = .ok (.getfield 20, 3) := by decide +kernel
theorem dX0_work_24 : decode cX0_work 24 = .ok (.iload_n 2, 1) := by decide +kernel
theorem dX0_work_25 : decode cX0_work 25 = .ok (.baload, 1) := by decide +kernel
theorem dX0_work_26 : decode cX0_work 26 = .ok (.istore_n 3, 1) := by decide +kernel
theorem dX0_work_27 : decode cX0_work 27 = .ok (.iload_n 3, 1) := by decide +kernel
theorem dX0_work_28 : decode cX0_work 28 = .ok (.bipush 12, 2) := by decide +kernel
theorem dX0_work_30 : decode cX0_work 30 = .ok (.if_icmp .ge 22, 3) := by decide +kernel
theorem dX0_work_33 : decode cX0_work 33 = .ok (.aload_n 0, 1) := by decide +kernel
theorem dX0_work_34 : decode cX0_work 34 = .ok (.iload_n 2, 1) := by decide +kernel
theorem dX0_work_35 : decode cX0_work 35 = .ok (.aload_n 0, 1) := by decide +kernel
theorem dX0_work_36 : decode cX0_work 36 = .ok (.getfield 16, 3) := by decide +kernel
theorem dX0_work_39 : decode cX0_work 39 = .ok (.iload_n 1, 1) := by decide +kernel
theorem dX0_work_40 : decode cX0_work 40 = .ok (.bipush 12, 2) := by decide +kernel
theorem dX0_work_42 : decode cX0_work 42 = .ok (.imul, 1) := by decide +kernel
theorem dX0_work_43 : decode cX0_work 43 = .ok (.iload_n 3, 1) := by decide +kernel
theorem dX0_work_44 : decode cX0_work 44 = .ok (.iadd, 1) := by decide +kernel
theorem dX0_work_45 : decode cX0_work 45 = .ok (.iaload, 1) := by decide +kernel
theorem dX0_work_46 : decode cX0_work 46 = .ok (.invokevirtual 74, 3) := by decide +kernel
theorem dX0_work_49 : decode cX0_work 49 = .ok (.goto 31, 3) := by decide +kernel
theorem dX0_work_52 : decode cX0_work 52 = .ok (.iload_n 3, 1) := by decide +kernel
theorem dX0_work_53 : decode cX0_work 53 = .ok (.invokestatic 56, 3) := by decide +kernel
theorem dX0_work_56 : decode cX0_work 56 = .ok (.ifCond .eq 12, 3) := by decide +kernel
theorem dX0_work_59 : decode cX0_work 59 = .ok (.aload_n 0, 1) := by decide +kernel
theorem dX0_work_60 : decode cX0_work 60 = .ok (.iload_n 2, 1) := by decide +kernel
theorem dX0_work_61 : decode cX0_work 61 = .ok (.iload_n 3, 1) := by decide +kernel
theorem dX0_work_62 : decode cX0_work 62 = .ok (.invokevirtual 78, 3) := by decide +kernel
theorem dX0_work_65 : decode cX0_work 65 = .ok (.goto 15, 3) := by decide +kernel
theorem dX0_work_68 : decode cX0_work 68 = .ok (.aload_n 0, 1) := by decide +kernel
theorem dX0_work_69 : decode cX0_work 69 = .ok (.getfield 35, 3) := by decide +kernel
theorem dX0_work_72 : decode cX0_work 72 = .ok (.iload_n 2, 1) := by decide +kernel
theorem dX0_work_73 : decode cX0_work 73 = .ok (.aload_n 0, 1) := by decide +kernel
end
section
set_option maxRecDepth 100000
theorem dX0_work_74 : decode cX0_work 74 = .ok (.iload_n 2, 1) := by decide +kernel
theorem dX0_work_75 : decode cX0_work 75 = .ok (.iload_n 3, 1) := by decide +kernel
theorem dX0_work_76 : decode cX0_work 76 = .ok (.invokevirtual 81, 3) := by decide +kernel
theorem dX0_work_79 : decode cX0_work 79 = .ok (.bastore, 1) := by decide +kernel
theorem dX0_work_80 : decode cX0_work 80 = .ok (.iinc 2 (-1), 3) := by decide +kernel
theorem dX0_work_83 : decode cX0_work 83 = .ok (.goto (-67), 3) := by decide +kernel
theorem dX0_work_86 : decode cX0_work 86 = .ok (.iconst 1, 1) := by decide +kernel
theorem dX0_work_87 : decode cX0_work 87 = .ok (.ireturn, 1) := by decide +kernel
theorem dX0_word_0 : decode cX0_word 0 = .ok (.iconst 0, 1) := by decide +kernel
theorem dX0_word_1 : decode cX0_word 1 = .ok (.istore_n 3, 1) := by decide +kernel
theorem dX0_word_2 : decode cX0_word 2 = .ok (.iload_n 3, 1) := by decide +kernel
theorem dX0_word_3 : decode cX0_word 3 = .ok (.bipush 24, 2) := by decide +kernel
theorem dX0_word_5 : decode cX0_word 5 = .ok (.if_icmp .ge 25, 3) := by decide +kernel
theorem dX0_word_8 : decode cX0_word 8 = .ok (.aload_n 0, 1) := by decide +kernel
theorem dX0_word_9 : decode cX0_word 9 = .ok (.getfield 32, 3) := by decide +kernel
theorem dX0_word_12 : decode cX0_word 12 = .ok (.iload_n 1, 1) := by decide +kernel
theorem dX0_word_13 : decode cX0_word 13 = .ok (.bipush 24, 2) := by decide +kernel
theorem dX0_word_15 : decode cX0_word 15 = .ok (.imul, 1) := by decide +kernel
theorem dX0_word_16 : decode cX0_word 16 = .ok (.iload_n 3, 1) := by decide +kernel
theorem dX0_word_17 : decode cX0_word 17 = .ok (.iadd, 1) := by decide +kernel
theorem dX0_word_18 : decode cX0_word 18 = .ok (.iload_n 2, 1) := by decide +kernel
theorem dX0_word_19 : decode cX0_word 19 = .ok (.iconst 1, 1) := by decide +kernel
theorem dX0_word_20 : decode cX0_word 20 = .ok (.iload_n 3, 1) := by decide +kernel
theorem dX0_word_21 : decode cX0_word 21 = .ok (.ishl, 1) := by decide +kernel
theorem dX0_word_22 : decode cX0_word 22 = .ok (.iand, 1) := by decide +kernel
theorem dX0_word_23 : decode cX0_word 23 = .ok (.iastore, 1) := by decide +kernel
theorem dX0_word_24 : decode cX0_word 24 = .ok (.iinc 3 1, 3) := by decide +kernel
theorem dX0_word_27 : decode cX0_word 27 = .ok (.goto (-25), 3) := by decide +kernel
theorem dX0_word_30 : decode cX0_word 30 = .ok (.return_, 1) := by decide +kernel
theorem dX0_combine_0 : decode cX0_combine 0 = .ok (.iload_n 1, 1) := by decide +kernel
theorem dX0_combine_1 : decode cX0_combine 1 = .ok (.iconst 1, 1) := by decide +kernel
theorem dX0_combine_2 : decode cX0_combine 2 = .ok (.iadd, 1) := by decide +kernel
theorem dX0_combine_3 : decode cX0_combine 3 = .ok (.bipush 24, 2) := by decide +kernel
theorem dX0_combine_5 : decode cX0_combine 5 = .ok (.imul, 1) := by decide +kernel
theorem dX0_combine_6 : decode cX0_combine 6 = .ok (.istore_n 3, 1) := by decide +kernel
theorem dX0_combine_7 : decode cX0_combine 7 = .ok (.aload_n 0, 1) := by decide +kernel
theorem dX0_combine_8 : decode cX0_combine 8 = .ok (.getfield 23, 3) := by decide +kernel
theorem dX0_combine_11 : decode cX0_combine 11 = .ok (.iload_n 1, 1) := by decide +kernel
theorem dX0_combine_12 : decode cX0_combine 12 = .ok (.baload, 1) := by decide +kernel
theorem dX0_combine_13 : decode cX0_combine 13 = .ok (.bipush 24, 2) := by decide +kernel
theorem dX0_combine_15 : decode cX0_combine 15 = .ok (.imul, 1) := by decide +kernel
theorem dX0_combine_16 : decode cX0_combine 16 = .ok (.istore 4, 2) := by decide +kernel
theorem dX0_combine_18 : decode cX0_combine 18 = .ok (.iconst (-1), 1) := by decide +kernel
theorem dX0_combine_19 : decode cX0_combine 19 = .ok (.istore 5, 2) := by decide +kernel
theorem dX0_combine_21 : decode cX0_combine 21 = .ok (.iconst 0, 1) := by decide +kernel
theorem dX0_combine_22 : decode cX0_combine 22 = .ok (.istore 6, 2) := by decide +kernel
theorem dX0_combine_24 : decode cX0_combine 24 = .ok (.iload 6, 2) := by decide +kernel
theorem dX0_combine_26 : decode cX0_combine 26 = .ok (.bipush 24, 2) := by decide +kernel
theorem dX0_combine_28 : decode cX0_combine 28 = .ok (.if_icmp .ge 122, 3) := by decide +kernel
theorem dX0_combine_31 : decode cX0_combine 31 = .ok (.aload_n 0, 1) := by decide +kernel
theorem dX0_combine_32 : decode cX0_combine 32 = .ok (.getfield 32, 3) := by decide +kernel
theorem dX0_combine_35 : decode cX0_combine 35 = .ok (.iload_n 3, 1) := by decide +kernel
theorem dX0_combine_36 : decode cX0_combine 36 = .ok (.iload 6, 2) := by decide +kernel
theorem dX0_combine_38 : decode cX0_combine 38 = .ok (.iadd, 1) := by decide +kernel
theorem dX0_combine_39 : decode cX0_combine 39 = .ok (.iaload, 1) := by decide +kernel
theorem dX0_combine_40 : decode cX0_combine 40 = .ok (.istore 7, 2) := by decide +kernel
theorem dX0_combine_42 : decode cX0_combine 42 = .ok (.iload_n 2, 1) := by decide +kernel
theorem dX0_combine_43 : decode cX0_combine 43 = .ok (.bipush 12, 2) := by decide +kernel
theorem dX0_combine_45 : decode cX0_combine 45 = .ok (.if_icmp .ne 21, 3) := by decide +kernel
theorem dX0_combine_48 : decode cX0_combine 48 = .ok (.iload 7, 2) := by decide +kernel
theorem dX0_combine_50 : decode cX0_combine 50 = .ok (.aload_n 0, 1) := by decide +kernel
theorem dX0_combine_51 : decode cX0_combine 51 = .ok (.getfield 32, 3) := by decide +kernel
theorem dX0_combine_54 : decode cX0_combine 54 = .ok (.iload 4, 2) := by decide +kernel
theorem dX0_combine_56 : decode cX0_combine 56 = .ok (.iload 6, 2) := by decide +kernel
theorem dX0_combine_58 : decode cX0_combine 58 = .ok (.iadd, 1) := by decide +kernel
theorem dX0_combine_59 : decode cX0_combine 59 = .ok (.iaload, 1) := by decide +kernel
theorem dX0_combine_60 : decode cX0_combine 60 = .ok (.ior, 1) := by decide +kernel
theorem dX0_combine_61 : decode cX0_combine 61 = .ok (.istore 7, 2) := by decide +kernel
theorem dX0_combine_63 : decode cX0_combine 63 = .ok (.goto 67, 3) := by decide +kernel
theorem dX0_combine_66 : decode cX0_combine 66 = .ok (.iload_n 2, 1) := by decide +kernel
theorem dX0_combine_67 : decode cX0_combine 67 = .ok (.bipush 18, 2) := by decide +kernel
theorem dX0_combine_69 : decode cX0_combine 69 = .ok (.if_icmp .ne 47, 3) := by decide +kernel
theorem dX0_combine_72 : decode cX0_combine 72 = .ok (.aload_n 0, 1) := by decide +kernel
theorem dX0_combine_73 : decode cX0_combine 73 = .ok (.getfield 32, 3) := by decide +kernel
theorem dX0_combine_76 : decode cX0_combine 76 = .ok (.iload 4, 2) := by decide +kernel
theorem dX0_combine_78 : decode cX0_combine 78 = .ok (.iload 6, 2) := by decide +kernel
theorem dX0_combine_80 : decode cX0_combine 80 = .ok (.iadd, 1) := by decide +kernel
theorem dX0_combine_81 : decode cX0_combine 81 = .ok (.iaload, 1) := by decide +kernel
theorem dX0_combine_82 : decode cX0_combine 82 = .ok (.invokestatic 85, 3) := by decide +kernel
theorem dX0_combine_85 : decode cX0_combine 85 = .ok (.istore 8, 2) := by decide +kernel
theorem dX0_combine_87 : decode cX0_combine 87 = .ok (.iload 8, 2) := by decide +kernel
theorem dX0_combine_89 : decode cX0_combine 89 = .ok (.iload 5, 2) := by decide +kernel
theorem dX0_combine_91 : decode cX0_combine 91 = .ok (.if_icmp .le 8, 3) := by decide +kernel
theorem dX0_combine_94 : decode cX0_combine 94 = .ok (.iload 8, 2) := by decide +kernel
theorem dX0_combine_96 : decode cX0_combine 96 = .ok (.goto 5, 3) := by decide +kernel
theorem dX0_combine_99 : decode cX0_combine 99 = .ok (.iload 5, 2) := by decide +kernel
theorem dX0_combine_101 : decode cX0_combine 101 = .ok (.istore 5, 2) := by decide +kernel
theorem dX0_combine_103 : decode cX0_combine 103 = .ok (.iload 7, 2) := by decide +kernel
theorem dX0_combine_105 : decode cX0_combine 105 = .ok (.iload 5, 2) := by decide +kernel
theorem dX0_combine_107 : decode cX0_combine 107 = .ok (.invokestatic 88, 3) := by decide +kernel
theorem dX0_combine_110 : decode cX0_combine 110 = .ok (.iand, 1) := by decide +kernel
theorem dX0_combine_111 : decode cX0_combine 111 = .ok (.istore 7, 2) := by decide +kernel
theorem dX0_combine_113 : decode cX0_combine 113 = .ok (.goto 17, 3) := by decide +kernel
theorem dX0_combine_116 : decode cX0_combine 116 = .ok (.aload_n 0, 1) := by decide +kernel
theorem dX0_combine_117 : decode cX0_combine 117 = .ok (.iload 7, 2) := by decide +kernel
theorem dX0_combine_119 : decode cX0_combine 119 = .ok (.iload_n 2, 1) := by decide +kernel
theorem dX0_combine_120 : decode cX0_combine 120 = .ok (.bipush 13, 2) := by decide +kernel
theorem dX0_combine_122 : decode cX0_combine 122 = .ok (.isub, 1) := by decide +kernel
theorem dX0_combine_123 : decode cX0_combine 123 = .ok (.iload 4, 2) := by decide +kernel
theorem dX0_combine_125 : decode cX0_combine 125 = .ok (.invokevirtual 91, 3) := by decide +kernel
theorem dX0_combine_128 : decode cX0_combine 128 = .ok (.istore 7, 2) := by decide +kernel
theorem dX0_combine_130 : decode cX0_combine 130 = .ok (.aload_n 0, 1) := by decide +kernel
theorem dX0_combine_131 : decode cX0_combine 131 = .ok (.getfield 32, 3) := by decide +kernel
theorem dX0_combine_134 : decode cX0_combine 134 = .ok (.iload_n 1, 1) := by decide +kernel
theorem dX0_combine_135 : decode cX0_combine 135 = .ok (.bipush 24, 2) := by decide +kernel
theorem dX0_combine_137 : decode cX0_combine 137 = .ok (.imul, 1) := by decide +kernel
theorem dX0_combine_138 : decode cX0_combine 138 = .ok (.iload 6, 2) := by decide +kernel
theorem dX0_combine_140 : decode cX0_combine 140 = .ok (.iadd, 1) := by decide +kernel
theorem dX0_combine_141 : decode cX0_combine 141 = .ok (.iload 7, 2) := by decide +kernel
theorem dX0_combine_143 : decode cX0_combine 143 = .ok (.iastore, 1) := by decide +kernel
theorem dX0_combine_144 : decode cX0_combine 144 = .ok (.iinc 6 1, 3) := by decide +kernel
theorem dX0_combine_147 : decode cX0_combine 147 = .ok (.goto (-123), 3) := by decide +kernel
theorem dX0_combine_150 : decode cX0_combine 150 = .ok (.return_, 1) := by decide +kernel
theorem dX0_greatest_0 : decode cX0_greatest 0 = .ok (.bipush 23, 2) := by decide +kernel
theorem dX0_greatest_2 : decode cX0_greatest 2 = .ok (.istore_n 1, 1) := by decide +kernel
theorem dX0_greatest_3 : decode cX0_greatest 3 = .ok (.iload_n 1, 1) := by decide +kernel
theorem dX0_greatest_4 : decode cX0_greatest 4 = .ok (.ifCond .lt 19, 3) := by decide +kernel
theorem dX0_greatest_7 : decode cX0_greatest 7 = .ok (.iload_n 0, 1) := by decide +kernel
theorem dX0_greatest_8 : decode cX0_greatest 8 = .ok (.iload_n 1, 1) := by decide +kernel
theorem dX0_greatest_9 : decode cX0_greatest 9 = .ok (.ishr, 1) := by decide +kernel
theorem dX0_greatest_10 : decode cX0_greatest 10 = .ok (.iconst 1, 1) := by decide +kernel
theorem dX0_greatest_11 : decode cX0_greatest 11 = .ok (.iand, 1) := by decide +kernel
theorem dX0_greatest_12 : decode cX0_greatest 12 = .ok (.ifCond .eq 5, 3) := by decide +kernel
theorem dX0_greatest_15 : decode cX0_greatest 15 = .ok (.iload_n 1, 1) := by decide +kernel
theorem dX0_greatest_16 : decode cX0_greatest 16 = .ok (.ireturn, 1) := by decide +kernel
theorem dX0_greatest_17 : decode cX0_greatest 17 = .ok (.iinc 1 (-1), 3) := by decide +kernel
theorem dX0_greatest_20 : decode cX0_greatest 20 = .ok (.goto (-17), 3) := by decide +kernel
theorem dX0_greatest_23 : decode cX0_greatest 23 = .ok (.iconst (-1), 1) := by decide +kernel
theorem dX0_greatest_24 : decode cX0_greatest 24 = .ok (.ireturn, 1) := by decide +kernel
theorem dX0_upTo_0 : decode cX0_upTo 0 = .ok (.iconst 1, 1) := by decide +kernel
theorem dX0_upTo_1 : decode cX0_upTo 1 = .ok (.iload_n 0, 1) := by decide +kernel
theorem dX0_upTo_2 : decode cX0_upTo 2 = .ok (.iconst 1, 1) := by decide +kernel
theorem dX0_upTo_3 : decode cX0_upTo 3 = .ok (.iadd, 1) := by decide +kernel
theorem dX0_upTo_4 : decode cX0_upTo 4 = .ok (.ishl, 1) := by decide +kernel
theorem dX0_upTo_5 : decode cX0_upTo 5 = .ok (.iconst 1, 1) := by decide +kernel
theorem dX0_upTo_6 : decode cX0_upTo 6 = .ok (.isub, 1) := by decide +kernel
theorem dX0_upTo_7 : decode cX0_upTo 7 = .ok (.ireturn, 1) := by decide +kernel
theorem dX0_goOn_0 : decode cX0_goOn 0 = .ok (.iconst 0, 1) := by decide +kernel
theorem dX0_goOn_1 : decode cX0_goOn 1 = .ok (.istore 4, 2) := by decide +kernel
theorem dX0_goOn_3 : decode cX0_goOn 3 = .ok (.iconst 0, 1) := by decide +kernel
theorem dX0_goOn_4 : decode cX0_goOn 4 = .ok (.istore 5, 2) := by decide +kernel
theorem dX0_goOn_6 : decode cX0_goOn 6 = .ok (.iload 5, 2) := by decide +kernel
theorem dX0_goOn_8 : decode cX0_goOn 8 = .ok (.iload_n 2, 1) := by decide +kernel
theorem dX0_goOn_9 : decode cX0_goOn 9 = .ok (.iadd, 1) := by decide +kernel
theorem dX0_goOn_10 : decode cX0_goOn 10 = .ok (.bipush 24, 2) := by decide +kernel
theorem dX0_goOn_12 : decode cX0_goOn 12 = .ok (.if_icmp .ge 34, 3) := by decide +kernel
theorem dX0_goOn_15 : decode cX0_goOn 15 = .ok (.iload_n 1, 1) := by decide +kernel
theorem dX0_goOn_16 : decode cX0_goOn 16 = .ok (.iload 5, 2) := by decide +kernel
theorem dX0_goOn_18 : decode cX0_goOn 18 = .ok (.ishr, 1) := by decide +kernel
theorem dX0_goOn_19 : decode cX0_goOn 19 = .ok (.iconst 1, 1) := by decide +kernel
theorem dX0_goOn_20 : decode cX0_goOn 20 = .ok (.iand, 1) := by decide +kernel
theorem dX0_goOn_21 : decode cX0_goOn 21 = .ok (.ifCond .eq 19, 3) := by decide +kernel
theorem dX0_goOn_24 : decode cX0_goOn 24 = .ok (.iload 4, 2) := by decide +kernel
theorem dX0_goOn_26 : decode cX0_goOn 26 = .ok (.aload_n 0, 1) := by decide +kernel
theorem dX0_goOn_27 : decode cX0_goOn 27 = .ok (.getfield 32, 3) := by decide +kernel
theorem dX0_goOn_30 : decode cX0_goOn 30 = .ok (.iload_n 3, 1) := by decide +kernel
theorem dX0_goOn_31 : decode cX0_goOn 31 = .ok (.iload 5, 2) := by decide +kernel
theorem dX0_goOn_33 : decode cX0_goOn 33 = .ok (.iadd, 1) := by decide +kernel
theorem dX0_goOn_34 : decode cX0_goOn 34 = .ok (.iload_n 2, 1) := by decide +kernel
theorem dX0_goOn_35 : decode cX0_goOn 35 = .ok (.iadd, 1) := by decide +kernel
theorem dX0_goOn_36 : decode cX0_goOn 36 = .ok (.iaload, 1) := by decide +kernel
theorem dX0_goOn_37 : decode cX0_goOn 37 = .ok (.ior, 1) := by decide +kernel
theorem dX0_goOn_38 : decode cX0_goOn 38 = .ok (.istore 4, 2) := by decide +kernel
theorem dX0_goOn_40 : decode cX0_goOn 40 = .ok (.iinc 5 1, 3) := by decide +kernel
theorem dX0_goOn_43 : decode cX0_goOn 43 = .ok (.goto (-37), 3) := by decide +kernel
theorem dX0_goOn_46 : decode cX0_goOn 46 = .ok (.iload 4, 2) := by decide +kernel
theorem dX0_goOn_48 : decode cX0_goOn 48 = .ok (.ireturn, 1) := by decide +kernel
theorem dX0_condition_0 : decode cX0_condition 0 = .ok (.aload_n 0, 1) := by decide +kernel
theorem dX0_condition_1 : decode cX0_condition 1 = .ok (.getfield 35, 3) := by decide +kernel
theorem dX0_condition_4 : decode cX0_condition 4 = .ok (.iload_n 1, 1) := by decide +kernel
theorem dX0_condition_5 : decode cX0_condition 5 = .ok (.iconst 1, 1) := by decide +kernel
theorem dX0_condition_6 : decode cX0_condition 6 = .ok (.iadd, 1) := by decide +kernel
theorem dX0_condition_7 : decode cX0_condition 7 = .ok (.baload, 1) := by decide +kernel
theorem dX0_condition_8 : decode cX0_condition 8 = .ok (.istore_n 3, 1) := by decide +kernel
theorem dX0_condition_9 : decode cX0_condition 9 = .ok (.iload_n 2, 1) := by decide +kernel
theorem dX0_condition_10 : decode cX0_condition 10 = .ok (.bipush 23, 2) := by decide +kernel
theorem dX0_condition_12 : decode cX0_condition 12 = .ok (.if_icmp .ne 20, 3) := by decide +kernel
theorem dX0_condition_15 : decode cX0_condition 15 = .ok (.aload_n 0, 1) := by decide +kernel
theorem dX0_condition_16 : decode cX0_condition 16 = .ok (.iload_n 1, 1) := by decide +kernel
theorem dX0_condition_17 : decode cX0_condition 17 = .ok (.iconst 1, 1) := by decide +kernel
theorem dX0_condition_18 : decode cX0_condition 18 = .ok (.iadd, 1) := by decide +kernel
theorem dX0_condition_19 : decode cX0_condition 19 = .ok (.iconst 0, 1) := by decide +kernel
theorem dX0_condition_20 : decode cX0_condition 20 = .ok (.invokevirtual 95, 3) := by decide +kernel
theorem dX0_condition_23 : decode cX0_condition 23 = .ok (.ifCond .lt 7, 3) := by decide +kernel
theorem dX0_condition_26 : decode cX0_condition 26 = .ok (.iconst 1, 1) := by decide +kernel
theorem dX0_condition_27 : decode cX0_condition 27 = .ok (.goto 4, 3) := by decide +kernel
theorem dX0_condition_30 : decode cX0_condition 30 = .ok (.iconst 0, 1) := by decide +kernel
theorem dX0_condition_31 : decode cX0_condition 31 = .ok (.ireturn, 1) := by decide +kernel
theorem dX0_condition_32 : decode cX0_condition 32 = .ok (.iload_n 2, 1) := by decide +kernel
theorem dX0_condition_33 : decode cX0_condition 33 = .ok (.bipush 22, 2) := by decide +kernel
theorem dX0_condition_35 : decode cX0_condition 35 = .ok (.if_icmp .ne 13, 3) := by decide +kernel
theorem dX0_condition_38 : decode cX0_condition 38 = .ok (.iload_n 3, 1) := by decide +kernel
theorem dX0_condition_39 : decode cX0_condition 39 = .ok (.ifCond .ne 7, 3) := by decide +kernel
theorem dX0_condition_42 : decode cX0_condition 42 = .ok (.iconst 1, 1) := by decide +kernel
theorem dX0_condition_43 : decode cX0_condition 43 = .ok (.goto 4, 3) := by decide +kernel
theorem dX0_condition_46 : decode cX0_condition 46 = .ok (.iconst 0, 1) := by decide +kernel
theorem dX0_condition_47 : decode cX0_condition 47 = .ok (.ireturn, 1) := by decide +kernel
theorem dX0_condition_48 : decode cX0_condition 48 = .ok (.iload_n 2, 1) := by decide +kernel
theorem dX0_condition_49 : decode cX0_condition 49 = .ok (.bipush 20, 2) := by decide +kernel
theorem dX0_condition_51 : decode cX0_condition 51 = .ok (.if_icmp .ne 29, 3) := by decide +kernel
theorem dX0_condition_54 : decode cX0_condition 54 = .ok (.iload_n 3, 1) := by decide +kernel
theorem dX0_condition_55 : decode cX0_condition 55 = .ok (.ifCond .eq 21, 3) := by decide +kernel
theorem dX0_condition_58 : decode cX0_condition 58 = .ok (.aload_n 0, 1) := by decide +kernel
theorem dX0_condition_59 : decode cX0_condition 59 = .ok (.getfield 35, 3) := by decide +kernel
theorem dX0_condition_62 : decode cX0_condition 62 = .ok (.aload_n 0, 1) := by decide +kernel
theorem dX0_condition_63 : decode cX0_condition 63 = .ok (.getfield 23, 3) := by decide +kernel
theorem dX0_condition_66 : decode cX0_condition 66 = .ok (.iload_n 1, 1) := by decide +kernel
theorem dX0_condition_67 : decode cX0_condition 67 = .ok (.baload, 1) := by decide +kernel
theorem dX0_condition_68 : decode cX0_condition 68 = .ok (.baload, 1) := by decide +kernel
theorem dX0_condition_69 : decode cX0_condition 69 = .ok (.ifCond .eq 7, 3) := by decide +kernel
theorem dX0_condition_72 : decode cX0_condition 72 = .ok (.iconst 1, 1) := by decide +kernel
theorem dX0_condition_73 : decode cX0_condition 73 = .ok (.goto 30, 3) := by decide +kernel
theorem dX0_condition_76 : decode cX0_condition 76 = .ok (.iconst 0, 1) := by decide +kernel
theorem dX0_condition_77 : decode cX0_condition 77 = .ok (.goto 26, 3) := by decide +kernel
theorem dX0_condition_80 : decode cX0_condition 80 = .ok (.iload_n 3, 1) := by decide +kernel
theorem dX0_condition_81 : decode cX0_condition 81 = .ok (.ifCond .ne 17, 3) := by decide +kernel
theorem dX0_condition_84 : decode cX0_condition 84 = .ok (.aload_n 0, 1) := by decide +kernel
theorem dX0_condition_85 : decode cX0_condition 85 = .ok (.getfield 35, 3) := by decide +kernel
theorem dX0_condition_88 : decode cX0_condition 88 = .ok (.aload_n 0, 1) := by decide +kernel
theorem dX0_condition_89 : decode cX0_condition 89 = .ok (.getfield 23, 3) := by decide +kernel
theorem dX0_condition_92 : decode cX0_condition 92 = .ok (.iload_n 1, 1) := by decide +kernel
theorem dX0_condition_93 : decode cX0_condition 93 = .ok (.baload, 1) := by decide +kernel
theorem dX0_condition_94 : decode cX0_condition 94 = .ok (.baload, 1) := by decide +kernel
theorem dX0_condition_95 : decode cX0_condition 95 = .ok (.ifCond .eq 7, 3) := by decide +kernel
theorem dX0_condition_98 : decode cX0_condition 98 = .ok (.iconst 1, 1) := by decide +kernel
theorem dX0_condition_99 : decode cX0_condition 99 = .ok (.goto 4, 3) := by decide +kernel
theorem dX0_condition_102 : decode cX0_condition 102 = .ok (.iconst 0, 1) := by decide +kernel
theorem dX0_condition_103 : decode cX0_condition 103 = .ok (.ireturn, 1) := by decide +kernel
theorem dX0_firstBegin_0 : decode cX0_firstBegin 0 = .ok (.iload_n 2, 1) := by decide +kernel
theorem dX0_firstBegin_1 : decode cX0_firstBegin 1 = .ok (.ifCond .ge 7, 3) := by decide +kernel
theorem dX0_firstBegin_4 : decode cX0_firstBegin 4 = .ok (.iconst 0, 1) := by decide +kernel
theorem dX0_firstBegin_5 : decode cX0_firstBegin 5 = .ok (.goto 4, 3) := by decide +kernel
theorem dX0_firstBegin_8 : decode cX0_firstBegin 8 = .ok (.iload_n 2, 1) := by decide +kernel
theorem dX0_firstBegin_9 : decode cX0_firstBegin 9 = .ok (.istore_n 3, 1) := by decide +kernel
theorem dX0_firstBegin_10 : decode cX0_firstBegin 10 = .ok (.iload_n 3, 1) := by decide +kernel
theorem dX0_firstBegin_11 : decode cX0_firstBegin 11 = .ok (.bipush 24, 2) := by decide +kernel
theorem dX0_firstBegin_13 : decode cX0_firstBegin 13 = .ok (.if_icmp .ge 25, 3) := by decide +kernel
theorem dX0_firstBegin_16 : decode cX0_firstBegin 16 = .ok (.aload_n 0, 1) := by decide +kernel
theorem dX0_firstBegin_17 : decode cX0_firstBegin 17 = .ok (.getfield 32, 3) := by decide +kernel
theorem dX0_firstBegin_20 : decode cX0_firstBegin 20 = .ok (.iload_n 1, 1) := by decide +kernel
theorem dX0_firstBegin_21 : decode cX0_firstBegin 21 = .ok (.bipush 24, 2) := by decide +kernel
theorem dX0_firstBegin_23 : decode cX0_firstBegin 23 = .ok (.imul, 1) := by decide +kernel
theorem dX0_firstBegin_24 : decode cX0_firstBegin 24 = .ok (.iload_n 3, 1) := by decide +kernel
theorem dX0_firstBegin_25 : decode cX0_firstBegin 25 = .ok (.iadd, 1) := by decide +kernel
theorem dX0_firstBegin_26 : decode cX0_firstBegin 26 = .ok (.iaload, 1) := by decide +kernel
theorem dX0_firstBegin_27 : decode cX0_firstBegin 27 = .ok (.ifCond .eq 5, 3) := by decide +kernel
theorem dX0_firstBegin_30 : decode cX0_firstBegin 30 = .ok (.iload_n 3, 1) := by decide +kernel
theorem dX0_firstBegin_31 : decode cX0_firstBegin 31 = .ok (.ireturn, 1) := by decide +kernel
theorem dX0_firstBegin_32 : decode cX0_firstBegin 32 = .ok (.iinc 3 1, 3) := by decide +kernel
theorem dX0_firstBegin_35 : decode cX0_firstBegin 35 = .ok (.goto (-25), 3) := by decide +kernel
theorem dX0_firstBegin_38 : decode cX0_firstBegin 38 = .ok (.iconst (-1), 1) := by decide +kernel
theorem dX0_firstBegin_39 : decode cX0_firstBegin 39 = .ok (.ireturn, 1) := by decide +kernel
theorem dX0_matching_0 : decode cX0_matching 0 = .ok (.iconst 0, 1) := by decide +kernel
theorem dX0_matching_1 : decode cX0_matching 1 = .ok (.istore_n 1, 1) := by decide +kernel
theorem dX0_matching_2 : decode cX0_matching 2 = .ok (.iconst 0, 1) := by decide +kernel
theorem dX0_matching_3 : decode cX0_matching 3 = .ok (.istore_n 2, 1) := by decide +kernel
theorem dX0_matching_4 : decode cX0_matching 4 = .ok (.iload_n 2, 1) := by decide +kernel
theorem dX0_matching_5 : decode cX0_matching 5 = .ok (.bipush 6, 2) := by decide +kernel
theorem dX0_matching_7 : decode cX0_matching 7 = .ok (.if_icmp .ge 27, 3) := by decide +kernel
theorem dX0_matching_10 : decode cX0_matching 10 = .ok (.iload_n 1, 1) := by decide +kernel
theorem dX0_matching_11 : decode cX0_matching 11 = .ok (.aload_n 0, 1) := by decide +kernel
theorem dX0_matching_12 : decode cX0_matching 12 = .ok (.iload_n 2, 1) := by decide +kernel
theorem dX0_matching_13 : decode cX0_matching 13 = .ok (.invokevirtual 102, 3) := by decide +kernel
theorem dX0_matching_16 : decode cX0_matching 16 = .ok (.ifCond .eq 9, 3) := by decide +kernel
theorem dX0_matching_19 : decode cX0_matching 19 = .ok (.iconst 1, 1) := by decide +kernel
theorem dX0_matching_20 : decode cX0_matching 20 = .ok (.iload_n 2, 1) := by decide +kernel
theorem dX0_matching_21 : decode cX0_matching 21 = .ok (.ishl, 1) := by decide +kernel
theorem dX0_matching_22 : decode cX0_matching 22 = .ok (.goto 4, 3) := by decide +kernel
theorem dX0_matching_25 : decode cX0_matching 25 = .ok (.iconst 0, 1) := by decide +kernel
theorem dX0_matching_26 : decode cX0_matching 26 = .ok (.ior, 1) := by decide +kernel
theorem dX0_matching_27 : decode cX0_matching 27 = .ok (.istore_n 1, 1) := by decide +kernel
theorem dX0_matching_28 : decode cX0_matching 28 = .ok (.iinc 2 1, 3) := by decide +kernel
theorem dX0_matching_31 : decode cX0_matching 31 = .ok (.goto (-27), 3) := by decide +kernel
theorem dX0_matching_34 : decode cX0_matching 34 = .ok (.iload_n 1, 1) := by decide +kernel
theorem dX0_matching_35 : decode cX0_matching 35 = .ok (.ireturn, 1) := by decide +kernel
theorem dX0_spans_0 : decode cX0_spans 0 = .ok (.aload_n 0, 1) := by decide +kernel
theorem dX0_spans_1 : decode cX0_spans 1 = .ok (.iload_n 1, 1) := by decide +kernel
theorem dX0_spans_2 : decode cX0_spans 2 = .ok (.iload_n 2, 1) := by decide +kernel
theorem dX0_spans_3 : decode cX0_spans 3 = .ok (.invokevirtual 105, 3) := by decide +kernel
theorem dX0_spans_6 : decode cX0_spans 6 = .ok (.istore_n 3, 1) := by decide +kernel
theorem dX0_spans_7 : decode cX0_spans 7 = .ok (.iload_n 3, 1) := by decide +kernel
theorem dX0_spans_8 : decode cX0_spans 8 = .ok (.ifCond .ge 5, 3) := by decide +kernel
theorem dX0_spans_11 : decode cX0_spans 11 = .ok (.iconst (-1), 1) := by decide +kernel
theorem dX0_spans_12 : decode cX0_spans 12 = .ok (.ireturn, 1) := by decide +kernel
theorem dX0_spans_13 : decode cX0_spans 13 = .ok (.iconst 0, 1) := by decide +kernel
theorem dX0_spans_14 : decode cX0_spans 14 = .ok (.istore 4, 2) := by decide +kernel
theorem dX0_spans_16 : decode cX0_spans 16 = .ok (.iconst 0, 1) := by decide +kernel
theorem dX0_spans_17 : decode cX0_spans 17 = .ok (.istore 5, 2) := by decide +kernel
theorem dX0_spans_19 : decode cX0_spans 19 = .ok (.iload 5, 2) := by decide +kernel
theorem dX0_spans_21 : decode cX0_spans 21 = .ok (.bipush 24, 2) := by decide +kernel
theorem dX0_spans_23 : decode cX0_spans 23 = .ok (.if_icmp .ge 29, 3) := by decide +kernel
theorem dX0_spans_26 : decode cX0_spans 26 = .ok (.iload 4, 2) := by decide +kernel
theorem dX0_spans_28 : decode cX0_spans 28 = .ok (.aload_n 0, 1) := by decide +kernel
theorem dX0_spans_29 : decode cX0_spans 29 = .ok (.getfield 32, 3) := by decide +kernel
theorem dX0_spans_32 : decode cX0_spans 32 = .ok (.iload_n 3, 1) := by decide +kernel
theorem dX0_spans_33 : decode cX0_spans 33 = .ok (.bipush 24, 2) := by decide +kernel
theorem dX0_spans_35 : decode cX0_spans 35 = .ok (.imul, 1) := by decide +kernel
theorem dX0_spans_36 : decode cX0_spans 36 = .ok (.iload 5, 2) := by decide +kernel
theorem dX0_spans_38 : decode cX0_spans 38 = .ok (.iadd, 1) := by decide +kernel
theorem dX0_spans_39 : decode cX0_spans 39 = .ok (.iaload, 1) := by decide +kernel
theorem dX0_spans_40 : decode cX0_spans 40 = .ok (.invokestatic 108, 3) := by decide +kernel
theorem dX0_spans_43 : decode cX0_spans 43 = .ok (.iadd, 1) := by decide +kernel
theorem dX0_spans_44 : decode cX0_spans 44 = .ok (.istore 4, 2) := by decide +kernel
theorem dX0_spans_46 : decode cX0_spans 46 = .ok (.iinc 5 1, 3) := by decide +kernel
theorem dX0_spans_49 : decode cX0_spans 49 = .ok (.goto (-30), 3) := by decide +kernel
theorem dX0_spans_52 : decode cX0_spans 52 = .ok (.iload 4, 2) := by decide +kernel
theorem dX0_spans_54 : decode cX0_spans 54 = .ok (.ireturn, 1) := by decide +kernel
theorem dX0_spanOf_0 : decode cX0_spanOf 0 = .ok (.iload_n 2, 1) := by decide +kernel
theorem dX0_spanOf_1 : decode cX0_spanOf 1 = .ok (.invokestatic 39, 3) := by decide +kernel
theorem dX0_spanOf_4 : decode cX0_spanOf 4 = .ok (.ifCond .eq 15, 3) := by decide +kernel
theorem dX0_spanOf_7 : decode cX0_spanOf 7 = .ok (.iload_n 1, 1) := by decide +kernel
theorem dX0_spanOf_8 : decode cX0_spanOf 8 = .ok (.ifCond .lt 11, 3) := by decide +kernel
theorem dX0_spanOf_11 : decode cX0_spanOf 11 = .ok (.aload_n 0, 1) := by decide +kernel
theorem dX0_spanOf_12 : decode cX0_spanOf 12 = .ok (.iload_n 2, 1) := by decide +kernel
theorem dX0_spanOf_13 : decode cX0_spanOf 13 = .ok (.invokevirtual 99, 3) := by decide +kernel
theorem dX0_spanOf_16 : decode cX0_spanOf 16 = .ok (.ifCond .ne 5, 3) := by decide +kernel
theorem dX0_spanOf_19 : decode cX0_spanOf 19 = .ok (.iconst (-1), 1) := by decide +kernel
theorem dX0_spanOf_20 : decode cX0_spanOf 20 = .ok (.ireturn, 1) := by decide +kernel
theorem dX0_spanOf_21 : decode cX0_spanOf 21 = .ok (.iconst 0, 1) := by decide +kernel
theorem dX0_spanOf_22 : decode cX0_spanOf 22 = .ok (.istore_n 3, 1) := by decide +kernel
theorem dX0_spanOf_23 : decode cX0_spanOf 23 = .ok (.iconst 0, 1) := by decide +kernel
theorem dX0_spanOf_24 : decode cX0_spanOf 24 = .ok (.istore 4, 2) := by decide +kernel
theorem dX0_spanOf_26 : decode cX0_spanOf 26 = .ok (.iload 4, 2) := by decide +kernel
theorem dX0_spanOf_28 : decode cX0_spanOf 28 = .ok (.aload_n 0, 1) := by decide +kernel
theorem dX0_spanOf_29 : decode cX0_spanOf 29 = .ok (.getfield 49, 3) := by decide +kernel
theorem dX0_spanOf_32 : decode cX0_spanOf 32 = .ok (.if_icmp .ge 34, 3) := by decide +kernel
theorem dX0_spanOf_35 : decode cX0_spanOf 35 = .ok (.aload_n 0, 1) := by decide +kernel
theorem dX0_spanOf_36 : decode cX0_spanOf 36 = .ok (.getfield 20, 3) := by decide +kernel
theorem dX0_spanOf_39 : decode cX0_spanOf 39 = .ok (.iload 4, 2) := by decide +kernel
theorem dX0_spanOf_41 : decode cX0_spanOf 41 = .ok (.baload, 1) := by decide +kernel
theorem dX0_spanOf_42 : decode cX0_spanOf 42 = .ok (.bipush 23, 2) := by decide +kernel
theorem dX0_spanOf_44 : decode cX0_spanOf 44 = .ok (.if_icmp .ne 16, 3) := by decide +kernel
theorem dX0_spanOf_47 : decode cX0_spanOf 47 = .ok (.iload_n 3, 1) := by decide +kernel
theorem dX0_spanOf_48 : decode cX0_spanOf 48 = .ok (.iload_n 1, 1) := by decide +kernel
theorem dX0_spanOf_49 : decode cX0_spanOf 49 = .ok (.if_icmp .ne 8, 3) := by decide +kernel
theorem dX0_spanOf_52 : decode cX0_spanOf 52 = .ok (.iload 4, 2) := by decide +kernel
theorem dX0_spanOf_54 : decode cX0_spanOf 54 = .ok (.iconst 1, 1) := by decide +kernel
theorem dX0_spanOf_55 : decode cX0_spanOf 55 = .ok (.iadd, 1) := by decide +kernel
theorem dX0_spanOf_56 : decode cX0_spanOf 56 = .ok (.ireturn, 1) := by decide +kernel
theorem dX0_spanOf_57 : decode cX0_spanOf 57 = .ok (.iinc 3 1, 3) := by decide +kernel
theorem dX0_spanOf_60 : decode cX0_spanOf 60 = .ok (.iinc 4 1, 3) := by decide +kernel
theorem dX0_spanOf_63 : decode cX0_spanOf 63 = .ok (.goto (-37), 3) := by decide +kernel
theorem dX0_spanOf_66 : decode cX0_spanOf 66 = .ok (.iconst (-1), 1) := by decide +kernel
theorem dX0_spanOf_67 : decode cX0_spanOf 67 = .ok (.ireturn, 1) := by decide +kernel
theorem dX0_ones_0 : decode cX0_ones 0 = .ok (.iconst 0, 1) := by decide +kernel
theorem dX0_ones_1 : decode cX0_ones 1 = .ok (.istore_n 1, 1) := by decide +kernel
theorem dX0_ones_2 : decode cX0_ones 2 = .ok (.iconst 0, 1) := by decide +kernel
theorem dX0_ones_3 : decode cX0_ones 3 = .ok (.istore_n 2, 1) := by decide +kernel
theorem dX0_ones_4 : decode cX0_ones 4 = .ok (.iload_n 2, 1) := by decide +kernel
theorem dX0_ones_5 : decode cX0_ones 5 = .ok (.bipush 24, 2) := by decide +kernel
theorem dX0_ones_7 : decode cX0_ones 7 = .ok (.if_icmp .ge 17, 3) := by decide +kernel
theorem dX0_ones_10 : decode cX0_ones 10 = .ok (.iload_n 1, 1) := by decide +kernel
theorem dX0_ones_11 : decode cX0_ones 11 = .ok (.iload_n 0, 1) := by decide +kernel
theorem dX0_ones_12 : decode cX0_ones 12 = .ok (.iload_n 2, 1) := by decide +kernel
theorem dX0_ones_13 : decode cX0_ones 13 = .ok (.ishr, 1) := by decide +kernel
theorem dX0_ones_14 : decode cX0_ones 14 = .ok (.iconst 1, 1) := by decide +kernel
theorem dX0_ones_15 : decode cX0_ones 15 = .ok (.iand, 1) := by decide +kernel
theorem dX0_ones_16 : decode cX0_ones 16 = .ok (.iadd, 1) := by decide +kernel
theorem dX0_ones_17 : decode cX0_ones 17 = .ok (.istore_n 1, 1) := by decide +kernel
theorem dX0_ones_18 : decode cX0_ones 18 = .ok (.iinc 2 1, 3) := by decide +kernel
theorem dX0_ones_21 : decode cX0_ones 21 = .ok (.goto (-17), 3) := by decide +kernel
theorem dX0_ones_24 : decode cX0_ones 24 = .ok (.iload_n 1, 1) := by decide +kernel
theorem dX0_ones_25 : decode cX0_ones 25 = .ok (.ireturn, 1) := by decide +kernel
theorem dX0_begins_0 : decode cX0_begins 0 = .ok (.aload_n 0, 1) := by decide +kernel
theorem dX0_begins_1 : decode cX0_begins 1 = .ok (.iload_n 1, 1) := by decide +kernel
theorem dX0_begins_2 : decode cX0_begins 2 = .ok (.iload_n 2, 1) := by decide +kernel
theorem dX0_begins_3 : decode cX0_begins 3 = .ok (.invokevirtual 105, 3) := by decide +kernel
theorem dX0_begins_6 : decode cX0_begins 6 = .ok (.istore 4, 2) := by decide +kernel
theorem dX0_begins_8 : decode cX0_begins 8 = .ok (.iload 4, 2) := by decide +kernel
theorem dX0_begins_10 : decode cX0_begins 10 = .ok (.ifCond .ge 7, 3) := by decide +kernel
theorem dX0_begins_13 : decode cX0_begins 13 = .ok (.iconst (-1), 1) := by decide +kernel
theorem dX0_begins_14 : decode cX0_begins 14 = .ok (.goto 10, 3) := by decide +kernel
theorem dX0_begins_17 : decode cX0_begins 17 = .ok (.aload_n 0, 1) := by decide +kernel
theorem dX0_begins_18 : decode cX0_begins 18 = .ok (.iload 4, 2) := by decide +kernel
theorem dX0_begins_20 : decode cX0_begins 20 = .ok (.iload_n 3, 1) := by decide +kernel
theorem dX0_begins_21 : decode cX0_begins 21 = .ok (.invokevirtual 95, 3) := by decide +kernel
theorem dX0_begins_24 : decode cX0_begins 24 = .ok (.ireturn, 1) := by decide +kernel
theorem dX0_ends_0 : decode cX0_ends 0 = .ok (.aload_n 0, 1) := by decide +kernel
theorem dX0_ends_1 : decode cX0_ends 1 = .ok (.iload_n 1, 1) := by decide +kernel
theorem dX0_ends_2 : decode cX0_ends 2 = .ok (.iload_n 2, 1) := by decide +kernel
theorem dX0_ends_3 : decode cX0_ends 3 = .ok (.invokevirtual 105, 3) := by decide +kernel
theorem dX0_ends_6 : decode cX0_ends 6 = .ok (.istore 4, 2) := by decide +kernel
theorem dX0_ends_8 : decode cX0_ends 8 = .ok (.iload 4, 2) := by decide +kernel
theorem dX0_ends_10 : decode cX0_ends 10 = .ok (.ifCond .lt 13, 3) := by decide +kernel
theorem dX0_ends_13 : decode cX0_ends 13 = .ok (.iload_n 3, 1) := by decide +kernel
theorem dX0_ends_14 : decode cX0_ends 14 = .ok (.ifCond .lt 9, 3) := by decide +kernel
theorem dX0_ends_17 : decode cX0_ends 17 = .ok (.iload_n 3, 1) := by decide +kernel
theorem dX0_ends_18 : decode cX0_ends 18 = .ok (.bipush 24, 2) := by decide +kernel
theorem dX0_ends_20 : decode cX0_ends 20 = .ok (.if_icmp .lt 5, 3) := by decide +kernel
theorem dX0_ends_23 : decode cX0_ends 23 = .ok (.iconst (-1), 1) := by decide +kernel
theorem dX0_ends_24 : decode cX0_ends 24 = .ok (.ireturn, 1) := by decide +kernel
theorem dX0_ends_25 : decode cX0_ends 25 = .ok (.aload_n 0, 1) := by decide +kernel
theorem dX0_ends_26 : decode cX0_ends 26 = .ok (.getfield 32, 3) := by decide +kernel
theorem dX0_ends_29 : decode cX0_ends 29 = .ok (.iload 4, 2) := by decide +kernel
theorem dX0_ends_31 : decode cX0_ends 31 = .ok (.bipush 24, 2) := by decide +kernel
theorem dX0_ends_33 : decode cX0_ends 33 = .ok (.imul, 1) := by decide +kernel
theorem dX0_ends_34 : decode cX0_ends 34 = .ok (.iload_n 3, 1) := by decide +kernel
theorem dX0_ends_35 : decode cX0_ends 35 = .ok (.iadd, 1) := by decide +kernel
theorem dX0_ends_36 : decode cX0_ends 36 = .ok (.iaload, 1) := by decide +kernel
theorem dX0_ends_37 : decode cX0_ends 37 = .ok (.istore 5, 2) := by decide +kernel
theorem dX0_ends_39 : decode cX0_ends 39 = .ok (.iconst 0, 1) := by decide +kernel
theorem dX0_ends_40 : decode cX0_ends 40 = .ok (.istore 6, 2) := by decide +kernel
theorem dX0_ends_42 : decode cX0_ends 42 = .ok (.iload 6, 2) := by decide +kernel
theorem dX0_ends_44 : decode cX0_ends 44 = .ok (.bipush 24, 2) := by decide +kernel
theorem dX0_ends_46 : decode cX0_ends 46 = .ok (.if_icmp .ge 22, 3) := by decide +kernel
theorem dX0_ends_49 : decode cX0_ends 49 = .ok (.iload 5, 2) := by decide +kernel
theorem dX0_ends_51 : decode cX0_ends 51 = .ok (.iload 6, 2) := by decide +kernel
theorem dX0_ends_53 : decode cX0_ends 53 = .ok (.ishr, 1) := by decide +kernel
theorem dX0_ends_54 : decode cX0_ends 54 = .ok (.iconst 1, 1) := by decide +kernel
theorem dX0_ends_55 : decode cX0_ends 55 = .ok (.iand, 1) := by decide +kernel
theorem dX0_ends_56 : decode cX0_ends 56 = .ok (.ifCond .eq 6, 3) := by decide +kernel
theorem dX0_ends_59 : decode cX0_ends 59 = .ok (.iload 6, 2) := by decide +kernel
theorem dX0_ends_61 : decode cX0_ends 61 = .ok (.ireturn, 1) := by decide +kernel
theorem dX0_ends_62 : decode cX0_ends 62 = .ok (.iinc 6 1, 3) := by decide +kernel
theorem dX0_ends_65 : decode cX0_ends 65 = .ok (.goto (-23), 3) := by decide +kernel
theorem dX0_ends_68 : decode cX0_ends 68 = .ok (.iconst (-1), 1) := by decide +kernel
theorem dX0_ends_69 : decode cX0_ends 69 = .ok (.ireturn, 1) := by decide +kernel
theorem dX0_having_0 : decode cX0_having 0 = .ok (.iconst 0, 1) := by decide +kernel
theorem dX0_having_1 : decode cX0_having 1 = .ok (.istore_n 2, 1) := by decide +kernel
theorem dX0_having_2 : decode cX0_having 2 = .ok (.iconst 0, 1) := by decide +kernel
theorem dX0_having_3 : decode cX0_having 3 = .ok (.istore_n 3, 1) := by decide +kernel
theorem dX0_having_4 : decode cX0_having 4 = .ok (.iload_n 3, 1) := by decide +kernel
theorem dX0_having_5 : decode cX0_having 5 = .ok (.bipush 6, 2) := by decide +kernel
theorem dX0_having_7 : decode cX0_having 7 = .ok (.if_icmp .ge 40, 3) := by decide +kernel
theorem dX0_having_10 : decode cX0_having 10 = .ok (.iload_n 1, 1) := by decide +kernel
theorem dX0_having_11 : decode cX0_having 11 = .ok (.invokestatic 43, 3) := by decide +kernel
theorem dX0_having_14 : decode cX0_having 14 = .ok (.ifCond .eq 33, 3) := by decide +kernel
theorem dX0_having_17 : decode cX0_having 17 = .ok (.iload_n 2, 1) := by decide +kernel
theorem dX0_having_18 : decode cX0_having 18 = .ok (.aload_n 0, 1) := by decide +kernel
theorem dX0_having_19 : decode cX0_having 19 = .ok (.getfield 16, 3) := by decide +kernel
theorem dX0_having_22 : decode cX0_having 22 = .ok (.iload_n 3, 1) := by decide +kernel
theorem dX0_having_23 : decode cX0_having 23 = .ok (.bipush 12, 2) := by decide +kernel
theorem dX0_having_25 : decode cX0_having 25 = .ok (.imul, 1) := by decide +kernel
theorem dX0_having_26 : decode cX0_having 26 = .ok (.iload_n 1, 1) := by decide +kernel
theorem dX0_having_27 : decode cX0_having 27 = .ok (.iadd, 1) := by decide +kernel
theorem dX0_having_28 : decode cX0_having 28 = .ok (.iaload, 1) := by decide +kernel
theorem dX0_having_29 : decode cX0_having 29 = .ok (.ifCond .eq 9, 3) := by decide +kernel
theorem dX0_having_32 : decode cX0_having 32 = .ok (.iconst 1, 1) := by decide +kernel
theorem dX0_having_33 : decode cX0_having 33 = .ok (.iload_n 3, 1) := by decide +kernel
theorem dX0_having_34 : decode cX0_having 34 = .ok (.ishl, 1) := by decide +kernel
theorem dX0_having_35 : decode cX0_having 35 = .ok (.goto 4, 3) := by decide +kernel
theorem dX0_having_38 : decode cX0_having 38 = .ok (.iconst 0, 1) := by decide +kernel
theorem dX0_having_39 : decode cX0_having 39 = .ok (.ior, 1) := by decide +kernel
theorem dX0_having_40 : decode cX0_having 40 = .ok (.istore_n 2, 1) := by decide +kernel
theorem dX0_having_41 : decode cX0_having 41 = .ok (.iinc 3 1, 3) := by decide +kernel
theorem dX0_having_44 : decode cX0_having 44 = .ok (.goto (-40), 3) := by decide +kernel
theorem dX0_having_47 : decode cX0_having 47 = .ok (.iload_n 2, 1) := by decide +kernel
theorem dX0_having_48 : decode cX0_having 48 = .ok (.ireturn, 1) := by decide +kernel
theorem dX0_frequency_0 : decode cX0_frequency 0 = .ok (.iconst 0, 1) := by decide +kernel
theorem dX0_frequency_1 : decode cX0_frequency 1 = .ok (.istore_n 2, 1) := by decide +kernel
theorem dX0_frequency_2 : decode cX0_frequency 2 = .ok (.iconst 0, 1) := by decide +kernel
theorem dX0_frequency_3 : decode cX0_frequency 3 = .ok (.istore_n 3, 1) := by decide +kernel
theorem dX0_frequency_4 : decode cX0_frequency 4 = .ok (.iload_n 3, 1) := by decide +kernel
theorem dX0_frequency_5 : decode cX0_frequency 5 = .ok (.bipush 6, 2) := by decide +kernel
theorem dX0_frequency_7 : decode cX0_frequency 7 = .ok (.if_icmp .ge 33, 3) := by decide +kernel
theorem dX0_frequency_10 : decode cX0_frequency 10 = .ok (.iload_n 1, 1) := by decide +kernel
theorem dX0_frequency_11 : decode cX0_frequency 11 = .ok (.invokestatic 43, 3) := by decide +kernel
theorem dX0_frequency_14 : decode cX0_frequency 14 = .ok (.ifCond .eq 26, 3) := by decide +kernel
theorem dX0_frequency_17 : decode cX0_frequency 17 = .ok (.iload_n 2, 1) := by decide +kernel
theorem dX0_frequency_18 : decode cX0_frequency 18 = .ok (.aload_n 0, 1) := by decide +kernel
theorem dX0_frequency_19 : decode cX0_frequency 19 = .ok (.getfield 16, 3) := by decide +kernel
theorem dX0_frequency_22 : decode cX0_frequency 22 = .ok (.iload_n 3, 1) := by decide +kernel
theorem dX0_frequency_23 : decode cX0_frequency 23 = .ok (.bipush 12, 2) := by decide +kernel
theorem dX0_frequency_25 : decode cX0_frequency 25 = .ok (.imul, 1) := by decide +kernel
theorem dX0_frequency_26 : decode cX0_frequency 26 = .ok (.iload_n 1, 1) := by decide +kernel
theorem dX0_frequency_27 : decode cX0_frequency 27 = .ok (.iadd, 1) := by decide +kernel
theorem dX0_frequency_28 : decode cX0_frequency 28 = .ok (.iaload, 1) := by decide +kernel
theorem dX0_frequency_29 : decode cX0_frequency 29 = .ok (.invokestatic 108, 3) := by decide +kernel
theorem dX0_frequency_32 : decode cX0_frequency 32 = .ok (.iadd, 1) := by decide +kernel
theorem dX0_frequency_33 : decode cX0_frequency 33 = .ok (.istore_n 2, 1) := by decide +kernel
theorem dX0_frequency_34 : decode cX0_frequency 34 = .ok (.iinc 3 1, 3) := by decide +kernel
theorem dX0_frequency_37 : decode cX0_frequency 37 = .ok (.goto (-33), 3) := by decide +kernel
theorem dX0_frequency_40 : decode cX0_frequency 40 = .ok (.iload_n 2, 1) := by decide +kernel
theorem dX0_frequency_41 : decode cX0_frequency 41 = .ok (.ireturn, 1) := by decide +kernel
theorem dX0_hasTokens_0 : decode cX0_hasTokens 0 = .ok (.iconst 0, 1) := by decide +kernel
theorem dX0_hasTokens_1 : decode cX0_hasTokens 1 = .ok (.istore_n 1, 1) := by decide +kernel
theorem dX0_hasTokens_2 : decode cX0_hasTokens 2 = .ok (.iconst 0, 1) := by decide +kernel
theorem dX0_hasTokens_3 : decode cX0_hasTokens 3 = .ok (.istore_n 2, 1) := by decide +kernel
theorem dX0_hasTokens_4 : decode cX0_hasTokens 4 = .ok (.iload_n 2, 1) := by decide +kernel
theorem dX0_hasTokens_5 : decode cX0_hasTokens 5 = .ok (.aload_n 0, 1) := by decide +kernel
theorem dX0_hasTokens_6 : decode cX0_hasTokens 6 = .ok (.getfield 49, 3) := by decide +kernel
theorem dX0_hasTokens_9 : decode cX0_hasTokens 9 = .ok (.if_icmp .ge 28, 3) := by decide +kernel
theorem dX0_hasTokens_12 : decode cX0_hasTokens 12 = .ok (.iload_n 1, 1) := by decide +kernel
theorem dX0_hasTokens_13 : decode cX0_hasTokens 13 = .ok (.aload_n 0, 1) := by decide +kernel
theorem dX0_hasTokens_14 : decode cX0_hasTokens 14 = .ok (.getfield 20, 3) := by decide +kernel
theorem dX0_hasTokens_17 : decode cX0_hasTokens 17 = .ok (.iload_n 2, 1) := by decide +kernel
theorem dX0_hasTokens_18 : decode cX0_hasTokens 18 = .ok (.baload, 1) := by decide +kernel
theorem dX0_hasTokens_19 : decode cX0_hasTokens 19 = .ok (.bipush 23, 2) := by decide +kernel
theorem dX0_hasTokens_21 : decode cX0_hasTokens 21 = .ok (.if_icmp .ne 7, 3) := by decide +kernel
theorem dX0_hasTokens_24 : decode cX0_hasTokens 24 = .ok (.iconst 1, 1) := by decide +kernel
theorem dX0_hasTokens_25 : decode cX0_hasTokens 25 = .ok (.goto 4, 3) := by decide +kernel
theorem dX0_hasTokens_28 : decode cX0_hasTokens 28 = .ok (.iconst 0, 1) := by decide +kernel
theorem dX0_hasTokens_29 : decode cX0_hasTokens 29 = .ok (.iadd, 1) := by decide +kernel
theorem dX0_hasTokens_30 : decode cX0_hasTokens 30 = .ok (.istore_n 1, 1) := by decide +kernel
theorem dX0_hasTokens_31 : decode cX0_hasTokens 31 = .ok (.iinc 2 1, 3) := by decide +kernel
theorem dX0_hasTokens_34 : decode cX0_hasTokens 34 = .ok (.goto (-30), 3) := by decide +kernel
theorem dX0_hasTokens_37 : decode cX0_hasTokens 37 = .ok (.iload_n 1, 1) := by decide +kernel
theorem dX0_hasTokens_38 : decode cX0_hasTokens 38 = .ok (.ireturn, 1) := by decide +kernel
end
section
set_option maxRecDepth 100000
theorem dX1_init_0 : decode cX1_init 0 = .ok (.aload_n 0, 1) := by decide +kernel
theorem dX1_init_1 : decode cX1_init 1 = .ok (.invokespecial 1, 3) := by decide +kernel
theorem dX1_init_4 : decode cX1_init 4 = .ok (.aload_n 0, 1) := by decide +kernel
theorem dX1_init_5 : decode cX1_init 5 = .ok (.bipush 6, 2) := by decide +kernel
theorem dX1_init_7 : decode cX1_init 7 = .ok (.newarray .int, 2) := by decide +kernel
theorem dX1_init_9 : decode cX1_init 9 = .ok (.putfield 7, 3) := by decide +kernel
theorem dX1_init_12 : decode cX1_init 12 = .ok (.aload_n 0, 1) := by decide +kernel
theorem dX1_init_13 : decode cX1_init 13 = .ok (.sipush 144, 3) := by decide +kernel
theorem dX1_init_16 : decode cX1_init 16 = .ok (.newarray .int, 2) := by decide +kernel
theorem dX1_init_18 : decode cX1_init 18 = .ok (.putfield 13, 3) := by decide +kernel
theorem dX1_init_21 : decode cX1_init 21 = .ok (.aload_n 0, 1) := by decide +kernel
theorem dX1_init_22 : decode cX1_init 22 = .ok (.bipush 12, 2) := by decide +kernel
theorem dX1_init_24 : decode cX1_init 24 = .ok (.newarray .int, 2) := by decide +kernel
theorem dX1_init_26 : decode cX1_init 26 = .ok (.putfield 16, 3) := by decide +kernel
theorem dX1_init_29 : decode cX1_init 29 = .ok (.aload_n 0, 1) := by decide +kernel
theorem dX1_init_30 : decode cX1_init 30 = .ok (.sipush 288, 3) := by decide +kernel
theorem dX1_init_33 : decode cX1_init 33 = .ok (.newarray .int, 2) := by decide +kernel
theorem dX1_init_35 : decode cX1_init 35 = .ok (.putfield 19, 3) := by decide +kernel
theorem dX1_init_38 : decode cX1_init 38 = .ok (.aload_n 0, 1) := by decide +kernel
theorem dX1_init_39 : decode cX1_init 39 = .ok (.bipush 13, 2) := by decide +kernel
theorem dX1_init_41 : decode cX1_init 41 = .ok (.newarray .int, 2) := by decide +kernel
theorem dX1_init_43 : decode cX1_init 43 = .ok (.putfield 22, 3) := by decide +kernel
theorem dX1_init_46 : decode cX1_init 46 = .ok (.aload_n 0, 1) := by decide +kernel
theorem dX1_init_47 : decode cX1_init 47 = .ok (.bipush 24, 2) := by decide +kernel
theorem dX1_init_49 : decode cX1_init 49 = .ok (.newarray .int, 2) := by decide +kernel
theorem dX1_init_51 : decode cX1_init 51 = .ok (.putfield 25, 3) := by decide +kernel
theorem dX1_init_54 : decode cX1_init 54 = .ok (.return_, 1) := by decide +kernel
theorem dX1_write_0 : decode cX1_write 0 = .ok (.aload_n 0, 1) := by decide +kernel
theorem dX1_write_1 : decode cX1_write 1 = .ok (.iload_n 1, 1) := by decide +kernel
theorem dX1_write_2 : decode cX1_write 2 = .ok (.invokevirtual 28, 3) := by decide +kernel
theorem dX1_write_5 : decode cX1_write 5 = .ok (.ifCond .eq 13, 3) := by decide +kernel
theorem dX1_write_8 : decode cX1_write 8 = .ok (.iload_n 2, 1) := by decide +kernel
theorem dX1_write_9 : decode cX1_write 9 = .ok (.ifCond .lt 9, 3) := by decide +kernel
theorem dX1_write_12 : decode cX1_write 12 = .ok (.iload_n 2, 1) := by decide +kernel
theorem dX1_write_13 : decode cX1_write 13 = .ok (.bipush 11, 2) := by decide +kernel
theorem dX1_write_15 : decode cX1_write 15 = .ok (.if_icmp .le 5, 3) := by decide +kernel
theorem dX1_write_18 : decode cX1_write 18 = .ok (.iconst (-1), 1) := by decide +kernel
theorem dX1_write_19 : decode cX1_write 19 = .ok (.ireturn, 1) := by decide +kernel
theorem dX1_write_20 : decode cX1_write 20 = .ok (.aload_n 0, 1) := by decide +kernel
theorem dX1_write_21 : decode cX1_write 21 = .ok (.getfield 7, 3) := by decide +kernel
theorem dX1_write_24 : decode cX1_write 24 = .ok (.iload_n 1, 1) := by decide +kernel
theorem dX1_write_25 : decode cX1_write 25 = .ok (.iaload, 1) := by decide +kernel
theorem dX1_write_26 : decode cX1_write 26 = .ok (.bipush 24, 2) := by decide +kernel
theorem dX1_write_28 : decode cX1_write 28 = .ok (.if_icmp .lt 6, 3) := by decide +kernel
theorem dX1_write_31 : decode cX1_write 31 = .ok (.bipush (-2), 2) := by decide +kernel
theorem dX1_write_33 : decode cX1_write 33 = .ok (.ireturn, 1) := by decide +kernel
theorem dX1_write_34 : decode cX1_write 34 = .ok (.aload_n 0, 1) := by decide +kernel
theorem dX1_write_35 : decode cX1_write 35 = .ok (.getfield 13, 3) := by decide +kernel
theorem dX1_write_38 : decode cX1_write 38 = .ok (.bipush 24, 2) := by decide +kernel
theorem dX1_write_40 : decode cX1_write 40 = .ok (.iload_n 1, 1) := by decide +kernel
theorem dX1_write_41 : decode cX1_write 41 = .ok (.imul, 1) := by decide +kernel
theorem dX1_write_42 : decode cX1_write 42 = .ok (.aload_n 0, 1) := by decide +kernel
theorem dX1_write_43 : decode cX1_write 43 = .ok (.getfield 7, 3) := by decide +kernel
theorem dX1_write_46 : decode cX1_write 46 = .ok (.iload_n 1, 1) := by decide +kernel
theorem dX1_write_47 : decode cX1_write 47 = .ok (.iaload, 1) := by decide +kernel
theorem dX1_write_48 : decode cX1_write 48 = .ok (.iadd, 1) := by decide +kernel
theorem dX1_write_49 : decode cX1_write 49 = .ok (.iload_n 2, 1) := by decide +kernel
theorem dX1_write_50 : decode cX1_write 50 = .ok (.iastore, 1) := by decide +kernel
theorem dX1_write_51 : decode cX1_write 51 = .ok (.aload_n 0, 1) := by decide +kernel
theorem dX1_write_52 : decode cX1_write 52 = .ok (.getfield 7, 3) := by decide +kernel
theorem dX1_write_55 : decode cX1_write 55 = .ok (.iload_n 1, 1) := by decide +kernel
theorem dX1_write_56 : decode cX1_write 56 = .ok (.dup2, 1) := by decide +kernel
theorem dX1_write_57 : decode cX1_write 57 = .ok (.iaload, 1) := by decide +kernel
theorem dX1_write_58 : decode cX1_write 58 = .ok (.iconst 1, 1) := by decide +kernel
theorem dX1_write_59 : decode cX1_write 59 = .ok (.iadd, 1) := by decide +kernel
theorem dX1_write_60 : decode cX1_write 60 = .ok (.iastore, 1) := by decide +kernel
theorem dX1_write_61 : decode cX1_write 61 = .ok (.aload_n 0, 1) := by decide +kernel
theorem dX1_write_62 : decode cX1_write 62 = .ok (.getfield 7, 3) := by decide +kernel
theorem dX1_write_65 : decode cX1_write 65 = .ok (.iload_n 1, 1) := by decide +kernel
theorem dX1_write_66 : decode cX1_write 66 = .ok (.iaload, 1) := by decide +kernel
theorem dX1_write_67 : decode cX1_write 67 = .ok (.iconst 1, 1) := by decide +kernel
theorem dX1_write_68 : decode cX1_write 68 = .ok (.isub, 1) := by decide +kernel
theorem dX1_write_69 : decode cX1_write 69 = .ok (.ireturn, 1) := by decide +kernel
theorem dX1_document_0 : decode cX1_document 0 = .ok (.iload_n 1, 1) := by decide +kernel
theorem dX1_document_1 : decode cX1_document 1 = .ok (.ifCond .lt 12, 3) := by decide +kernel
theorem dX1_document_4 : decode cX1_document 4 = .ok (.iload_n 1, 1) := by decide +kernel
theorem dX1_document_5 : decode cX1_document 5 = .ok (.iconst 5, 1) := by decide +kernel
theorem dX1_document_6 : decode cX1_document 6 = .ok (.if_icmp .gt 7, 3) := by decide +kernel
theorem dX1_document_9 : decode cX1_document 9 = .ok (.iconst 1, 1) := by decide +kernel
theorem dX1_document_10 : decode cX1_document 10 = .ok (.goto 4, 3) := by decide +kernel
theorem dX1_document_13 : decode cX1_document 13 = .ok (.iconst 0, 1) := by decide +kernel
theorem dX1_document_14 : decode cX1_document 14 = .ok (.ireturn, 1) := by decide +kernel
theorem dX1_change_0 : decode cX1_change 0 = .ok (.aload_n 0, 1) := by decide +kernel
theorem dX1_change_1 : decode cX1_change 1 = .ok (.iload_n 1, 1) := by decide +kernel
theorem dX1_change_2 : decode cX1_change 2 = .ok (.invokevirtual 28, 3) := by decide +kernel
theorem dX1_change_5 : decode cX1_change 5 = .ok (.ifCond .eq 27, 3) := by decide +kernel
theorem dX1_change_8 : decode cX1_change 8 = .ok (.iload_n 2, 1) := by decide +kernel
theorem dX1_change_9 : decode cX1_change 9 = .ok (.ifCond .lt 23, 3) := by decide +kernel
theorem dX1_change_12 : decode cX1_change 12 = .ok (.iload_n 2, 1) := by decide +kernel
theorem dX1_change_13 : decode cX1_change 13 = .ok (.aload_n 0, 1) := by decide +kernel
theorem dX1_change_14 : decode cX1_change 14 = .ok (.getfield 7, 3) := by decide +kernel
theorem dX1_change_17 : decode cX1_change 17 = .ok (.iload_n 1, 1) := by decide +kernel
theorem dX1_change_18 : decode cX1_change 18 = .ok (.iaload, 1) := by decide +kernel
theorem dX1_change_19 : decode cX1_change 19 = .ok (.if_icmp .ge 13, 3) := by decide +kernel
theorem dX1_change_22 : decode cX1_change 22 = .ok (.iload_n 3, 1) := by decide +kernel
theorem dX1_change_23 : decode cX1_change 23 = .ok (.ifCond .lt 9, 3) := by decide +kernel
theorem dX1_change_26 : decode cX1_change 26 = .ok (.iload_n 3, 1) := by decide +kernel
theorem dX1_change_27 : decode cX1_change 27 = .ok (.bipush 11, 2) := by decide +kernel
theorem dX1_change_29 : decode cX1_change 29 = .ok (.if_icmp .le 5, 3) := by decide +kernel
theorem dX1_change_32 : decode cX1_change 32 = .ok (.iconst 0, 1) := by decide +kernel
theorem dX1_change_33 : decode cX1_change 33 = .ok (.ireturn, 1) := by decide +kernel
theorem dX1_change_34 : decode cX1_change 34 = .ok (.aload_n 0, 1) := by decide +kernel
theorem dX1_change_35 : decode cX1_change 35 = .ok (.getfield 13, 3) := by decide +kernel
theorem dX1_change_38 : decode cX1_change 38 = .ok (.bipush 24, 2) := by decide +kernel
theorem dX1_change_40 : decode cX1_change 40 = .ok (.iload_n 1, 1) := by decide +kernel
theorem dX1_change_41 : decode cX1_change 41 = .ok (.imul, 1) := by decide +kernel
theorem dX1_change_42 : decode cX1_change 42 = .ok (.iload_n 2, 1) := by decide +kernel
theorem dX1_change_43 : decode cX1_change 43 = .ok (.iadd, 1) := by decide +kernel
theorem dX1_change_44 : decode cX1_change 44 = .ok (.iload_n 3, 1) := by decide +kernel
theorem dX1_change_45 : decode cX1_change 45 = .ok (.iastore, 1) := by decide +kernel
theorem dX1_change_46 : decode cX1_change 46 = .ok (.iconst 1, 1) := by decide +kernel
theorem dX1_change_47 : decode cX1_change 47 = .ok (.ireturn, 1) := by decide +kernel
theorem dX1_erase_0 : decode cX1_erase 0 = .ok (.aload_n 0, 1) := by decide +kernel
theorem dX1_erase_1 : decode cX1_erase 1 = .ok (.iload_n 1, 1) := by decide +kernel
theorem dX1_erase_2 : decode cX1_erase 2 = .ok (.invokevirtual 28, 3) := by decide +kernel
theorem dX1_erase_5 : decode cX1_erase 5 = .ok (.ifCond .ne 5, 3) := by decide +kernel
theorem dX1_erase_8 : decode cX1_erase 8 = .ok (.iconst 0, 1) := by decide +kernel
theorem dX1_erase_9 : decode cX1_erase 9 = .ok (.ireturn, 1) := by decide +kernel
theorem dX1_erase_10 : decode cX1_erase 10 = .ok (.aload_n 0, 1) := by decide +kernel
theorem dX1_erase_11 : decode cX1_erase 11 = .ok (.getfield 7, 3) := by decide +kernel
theorem dX1_erase_14 : decode cX1_erase 14 = .ok (.iload_n 1, 1) := by decide +kernel
theorem dX1_erase_15 : decode cX1_erase 15 = .ok (.iconst 0, 1) := by decide +kernel
theorem dX1_erase_16 : decode cX1_erase 16 = .ok (.iastore, 1) := by decide +kernel
theorem dX1_erase_17 : decode cX1_erase 17 = .ok (.iconst 1, 1) := by decide +kernel
theorem dX1_erase_18 : decode cX1_erase 18 = .ok (.ireturn, 1) := by decide +kernel
theorem dX1_length_0 : decode cX1_length 0 = .ok (.aload_n 0, 1) := by decide +kernel
theorem dX1_length_1 : decode cX1_length 1 = .ok (.iload_n 1, 1) := by decide +kernel
theorem dX1_length_2 : decode cX1_length 2 = .ok (.invokevirtual 28, 3) := by decide +kernel
theorem dX1_length_5 : decode cX1_length 5 = .ok (.ifCond .eq 12, 3) := by decide +kernel
theorem dX1_length_8 : decode cX1_length 8 = .ok (.aload_n 0, 1) := by decide +kernel
theorem dX1_length_9 : decode cX1_length 9 = .ok (.getfield 7, 3) := by decide +kernel
theorem dX1_length_12 : decode cX1_length 12 = .ok (.iload_n 1, 1) := by decide +kernel
theorem dX1_length_13 : decode cX1_length 13 = .ok (.iaload, 1) := by decide +kernel
theorem dX1_length_14 : decode cX1_length 14 = .ok (.goto 4, 3) := by decide +kernel
theorem dX1_length_17 : decode cX1_length 17 = .ok (.iconst (-1), 1) := by decide +kernel
theorem dX1_length_18 : decode cX1_length 18 = .ok (.ireturn, 1) := by decide +kernel
theorem dX1_ask_0 : decode cX1_ask 0 = .ok (.aload_n 0, 1) := by decide +kernel
theorem dX1_ask_1 : decode cX1_ask 1 = .ok (.invokevirtual 40, 3) := by decide +kernel
theorem dX1_ask_4 : decode cX1_ask 4 = .ok (.istore_n 2, 1) := by decide +kernel
theorem dX1_ask_5 : decode cX1_ask 5 = .ok (.aload_n 0, 1) := by decide +kernel
theorem dX1_ask_6 : decode cX1_ask 6 = .ok (.getfield 32, 3) := by decide +kernel
theorem dX1_ask_9 : decode cX1_ask 9 = .ok (.bipush 12, 2) := by decide +kernel
theorem dX1_ask_11 : decode cX1_ask 11 = .ok (.if_icmp .ge 7, 3) := by decide +kernel
theorem dX1_ask_14 : decode cX1_ask 14 = .ok (.iload_n 2, 1) := by decide +kernel
theorem dX1_ask_15 : decode cX1_ask 15 = .ok (.ifCond .ne 6, 3) := by decide +kernel
theorem dX1_ask_18 : decode cX1_ask 18 = .ok (.bipush (-2), 2) := by decide +kernel
theorem dX1_ask_20 : decode cX1_ask 20 = .ok (.ireturn, 1) := by decide +kernel
theorem dX1_ask_21 : decode cX1_ask 21 = .ok (.iload_n 1, 1) := by decide +kernel
theorem dX1_ask_22 : decode cX1_ask 22 = .ok (.ifCond .lt 13, 3) := by decide +kernel
theorem dX1_ask_25 : decode cX1_ask 25 = .ok (.iload_n 1, 1) := by decide +kernel
theorem dX1_ask_26 : decode cX1_ask 26 = .ok (.bipush 18, 2) := by decide +kernel
theorem dX1_ask_28 : decode cX1_ask 28 = .ok (.if_icmp .gt 7, 3) := by decide +kernel
theorem dX1_ask_31 : decode cX1_ask 31 = .ok (.iconst 1, 1) := by decide +kernel
theorem dX1_ask_32 : decode cX1_ask 32 = .ok (.goto 4, 3) := by decide +kernel
theorem dX1_ask_35 : decode cX1_ask 35 = .ok (.iconst 0, 1) := by decide +kernel
theorem dX1_ask_36 : decode cX1_ask 36 = .ok (.istore_n 3, 1) := by decide +kernel
theorem dX1_ask_37 : decode cX1_ask 37 = .ok (.iload_n 1, 1) := by decide +kernel
theorem dX1_ask_38 : decode cX1_ask 38 = .ok (.bipush 20, 2) := by decide +kernel
theorem dX1_ask_40 : decode cX1_ask 40 = .ok (.if_icmp .lt 13, 3) := by decide +kernel
theorem dX1_ask_43 : decode cX1_ask 43 = .ok (.iload_n 1, 1) := by decide +kernel
theorem dX1_ask_44 : decode cX1_ask 44 = .ok (.bipush 23, 2) := by decide +kernel
theorem dX1_ask_46 : decode cX1_ask 46 = .ok (.if_icmp .gt 7, 3) := by decide +kernel
theorem dX1_ask_49 : decode cX1_ask 49 = .ok (.iconst 1, 1) := by decide +kernel
theorem dX1_ask_50 : decode cX1_ask 50 = .ok (.goto 4, 3) := by decide +kernel
theorem dX1_ask_53 : decode cX1_ask 53 = .ok (.iconst 0, 1) := by decide +kernel
theorem dX1_ask_54 : decode cX1_ask 54 = .ok (.istore 4, 2) := by decide +kernel
theorem dX1_ask_56 : decode cX1_ask 56 = .ok (.iload_n 2, 1) := by decide +kernel
theorem dX1_ask_57 : decode cX1_ask 57 = .ok (.iconst 1, 1) := by decide +kernel
theorem dX1_ask_58 : decode cX1_ask 58 = .ok (.if_icmp .ne 11, 3) := by decide +kernel
theorem dX1_ask_61 : decode cX1_ask 61 = .ok (.iload 4, 2) := by decide +kernel
theorem dX1_ask_63 : decode cX1_ask 63 = .ok (.ifCond .ne 12, 3) := by decide +kernel
theorem dX1_ask_66 : decode cX1_ask 66 = .ok (.goto 7, 3) := by decide +kernel
theorem dX1_ask_69 : decode cX1_ask 69 = .ok (.iload_n 3, 1) := by decide +kernel
theorem dX1_ask_70 : decode cX1_ask 70 = .ok (.ifCond .ne 5, 3) := by decide +kernel
theorem dX1_ask_73 : decode cX1_ask 73 = .ok (.iconst (-1), 1) := by decide +kernel
theorem dX1_ask_74 : decode cX1_ask 74 = .ok (.ireturn, 1) := by decide +kernel
theorem dX1_ask_75 : decode cX1_ask 75 = .ok (.aload_n 0, 1) := by decide +kernel
theorem dX1_ask_76 : decode cX1_ask 76 = .ok (.getfield 16, 3) := by decide +kernel
theorem dX1_ask_79 : decode cX1_ask 79 = .ok (.aload_n 0, 1) := by decide +kernel
theorem dX1_ask_80 : decode cX1_ask 80 = .ok (.getfield 32, 3) := by decide +kernel
theorem dX1_ask_83 : decode cX1_ask 83 = .ok (.iload_n 1, 1) := by decide +kernel
theorem dX1_ask_84 : decode cX1_ask 84 = .ok (.iastore, 1) := by decide +kernel
theorem dX1_ask_85 : decode cX1_ask 85 = .ok (.aload_n 0, 1) := by decide +kernel
theorem dX1_ask_86 : decode cX1_ask 86 = .ok (.dup, 1) := by decide +kernel
theorem dX1_ask_87 : decode cX1_ask 87 = .ok (.getfield 32, 3) := by decide +kernel
theorem dX1_ask_90 : decode cX1_ask 90 = .ok (.iconst 1, 1) := by decide +kernel
theorem dX1_ask_91 : decode cX1_ask 91 = .ok (.iadd, 1) := by decide +kernel
theorem dX1_ask_92 : decode cX1_ask 92 = .ok (.putfield 32, 3) := by decide +kernel
theorem dX1_ask_95 : decode cX1_ask 95 = .ok (.aload_n 0, 1) := by decide +kernel
theorem dX1_ask_96 : decode cX1_ask 96 = .ok (.getfield 32, 3) := by decide +kernel
theorem dX1_ask_99 : decode cX1_ask 99 = .ok (.ireturn, 1) := by decide +kernel
theorem dX1_due_0 : decode cX1_due 0 = .ok (.iconst 1, 1) := by decide +kernel
theorem dX1_due_1 : decode cX1_due 1 = .ok (.istore_n 1, 1) := by decide +kernel
theorem dX1_due_2 : decode cX1_due 2 = .ok (.aload_n 0, 1) := by decide +kernel
theorem dX1_due_3 : decode cX1_due 3 = .ok (.getfield 25, 3) := by decide +kernel
theorem dX1_due_6 : decode cX1_due 6 = .ok (.iconst 0, 1) := by decide +kernel
theorem dX1_due_7 : decode cX1_due 7 = .ok (.iconst 1, 1) := by decide +kernel
theorem dX1_due_8 : decode cX1_due 8 = .ok (.iastore, 1) := by decide +kernel
theorem dX1_due_9 : decode cX1_due 9 = .ok (.iconst 0, 1) := by decide +kernel
theorem dX1_due_10 : decode cX1_due 10 = .ok (.istore_n 2, 1) := by decide +kernel
theorem dX1_due_11 : decode cX1_due 11 = .ok (.iload_n 2, 1) := by decide +kernel
theorem dX1_due_12 : decode cX1_due 12 = .ok (.aload_n 0, 1) := by decide +kernel
theorem dX1_due_13 : decode cX1_due 13 = .ok (.getfield 32, 3) := by decide +kernel
theorem dX1_due_16 : decode cX1_due 16 = .ok (.if_icmp .ge 78, 3) := by decide +kernel
theorem dX1_due_19 : decode cX1_due 19 = .ok (.iload_n 1, 1) := by decide +kernel
theorem dX1_due_20 : decode cX1_due 20 = .ok (.ifCond .le 74, 3) := by decide +kernel
theorem dX1_due_23 : decode cX1_due 23 = .ok (.iinc 1 (-1), 3) := by decide +kernel
theorem dX1_due_26 : decode cX1_due 26 = .ok (.aload_n 0, 1) := by decide +kernel
theorem dX1_due_27 : decode cX1_due 27 = .ok (.aload_n 0, 1) := by decide +kernel
theorem dX1_due_28 : decode cX1_due 28 = .ok (.getfield 16, 3) := by decide +kernel
theorem dX1_due_31 : decode cX1_due 31 = .ok (.iload_n 2, 1) := by decide +kernel
theorem dX1_due_32 : decode cX1_due 32 = .ok (.iaload, 1) := by decide +kernel
theorem dX1_due_33 : decode cX1_due 33 = .ok (.invokevirtual 36, 3) := by decide +kernel
theorem dX1_due_36 : decode cX1_due 36 = .ok (.istore_n 3, 1) := by decide +kernel
theorem dX1_due_37 : decode cX1_due 37 = .ok (.iconst 0, 1) := by decide +kernel
theorem dX1_due_38 : decode cX1_due 38 = .ok (.istore 4, 2) := by decide +kernel
theorem dX1_due_40 : decode cX1_due 40 = .ok (.iload 4, 2) := by decide +kernel
theorem dX1_due_42 : decode cX1_due 42 = .ok (.iload_n 3, 1) := by decide +kernel
theorem dX1_due_43 : decode cX1_due 43 = .ok (.if_icmp .ge 45, 3) := by decide +kernel
theorem dX1_due_46 : decode cX1_due 46 = .ok (.aload_n 0, 1) := by decide +kernel
theorem dX1_due_47 : decode cX1_due 47 = .ok (.getfield 25, 3) := by decide +kernel
theorem dX1_due_50 : decode cX1_due 50 = .ok (.iload_n 1, 1) := by decide +kernel
theorem dX1_due_51 : decode cX1_due 51 = .ok (.aload_n 0, 1) := by decide +kernel
theorem dX1_due_52 : decode cX1_due 52 = .ok (.getfield 16, 3) := by decide +kernel
theorem dX1_due_55 : decode cX1_due 55 = .ok (.iload_n 2, 1) := by decide +kernel
theorem dX1_due_56 : decode cX1_due 56 = .ok (.iaload, 1) := by decide +kernel
theorem dX1_due_57 : decode cX1_due 57 = .ok (.bipush 20, 2) := by decide +kernel
theorem dX1_due_59 : decode cX1_due 59 = .ok (.if_icmp .lt 18, 3) := by decide +kernel
theorem dX1_due_62 : decode cX1_due 62 = .ok (.aload_n 0, 1) := by decide +kernel
theorem dX1_due_63 : decode cX1_due 63 = .ok (.getfield 16, 3) := by decide +kernel
theorem dX1_due_66 : decode cX1_due 66 = .ok (.iload_n 2, 1) := by decide +kernel
theorem dX1_due_67 : decode cX1_due 67 = .ok (.iaload, 1) := by decide +kernel
theorem dX1_due_68 : decode cX1_due 68 = .ok (.bipush 22, 2) := by decide +kernel
theorem dX1_due_70 : decode cX1_due 70 = .ok (.if_icmp .gt 7, 3) := by decide +kernel
theorem dX1_due_73 : decode cX1_due 73 = .ok (.iconst 1, 1) := by decide +kernel
theorem dX1_due_74 : decode cX1_due 74 = .ok (.goto 4, 3) := by decide +kernel
theorem dX1_due_77 : decode cX1_due 77 = .ok (.iconst 2, 1) := by decide +kernel
theorem dX1_due_78 : decode cX1_due 78 = .ok (.iastore, 1) := by decide +kernel
theorem dX1_due_79 : decode cX1_due 79 = .ok (.iinc 1 1, 3) := by decide +kernel
theorem dX1_due_82 : decode cX1_due 82 = .ok (.iinc 4 1, 3) := by decide +kernel
theorem dX1_due_85 : decode cX1_due 85 = .ok (.goto (-45), 3) := by decide +kernel
theorem dX1_due_88 : decode cX1_due 88 = .ok (.iinc 2 1, 3) := by decide +kernel
theorem dX1_due_91 : decode cX1_due 91 = .ok (.goto (-80), 3) := by decide +kernel
theorem dX1_due_94 : decode cX1_due 94 = .ok (.iload_n 1, 1) := by decide +kernel
theorem dX1_due_95 : decode cX1_due 95 = .ok (.ifCond .ne 7, 3) := by decide +kernel
theorem dX1_due_98 : decode cX1_due 98 = .ok (.iconst 0, 1) := by decide +kernel
theorem dX1_due_99 : decode cX1_due 99 = .ok (.goto 11, 3) := by decide +kernel
theorem dX1_due_102 : decode cX1_due 102 = .ok (.aload_n 0, 1) := by decide +kernel
theorem dX1_due_103 : decode cX1_due 103 = .ok (.getfield 25, 3) := by decide +kernel
theorem dX1_due_106 : decode cX1_due 106 = .ok (.iload_n 1, 1) := by decide +kernel
theorem dX1_due_107 : decode cX1_due 107 = .ok (.iconst 1, 1) := by decide +kernel
theorem dX1_due_108 : decode cX1_due 108 = .ok (.isub, 1) := by decide +kernel
theorem dX1_due_109 : decode cX1_due 109 = .ok (.iaload, 1) := by decide +kernel
theorem dX1_due_110 : decode cX1_due 110 = .ok (.ireturn, 1) := by decide +kernel
theorem dX1_parts_0 : decode cX1_parts 0 = .ok (.iload_n 1, 1) := by decide +kernel
theorem dX1_parts_1 : decode cX1_parts 1 = .ok (.bipush 11, 2) := by decide +kernel
theorem dX1_parts_3 : decode cX1_parts 3 = .ok (.if_icmp .gt 7, 3) := by decide +kernel
theorem dX1_parts_6 : decode cX1_parts 6 = .ok (.iconst 0, 1) := by decide +kernel
theorem dX1_parts_7 : decode cX1_parts 7 = .ok (.goto 14, 3) := by decide +kernel
theorem dX1_parts_10 : decode cX1_parts 10 = .ok (.iload_n 1, 1) := by decide +kernel
theorem dX1_parts_11 : decode cX1_parts 11 = .ok (.bipush 22, 2) := by decide +kernel
theorem dX1_parts_13 : decode cX1_parts 13 = .ok (.if_icmp .lt 7, 3) := by decide +kernel
theorem dX1_parts_16 : decode cX1_parts 16 = .ok (.iconst 1, 1) := by decide +kernel
theorem dX1_parts_17 : decode cX1_parts 17 = .ok (.goto 4, 3) := by decide +kernel
theorem dX1_parts_20 : decode cX1_parts 20 = .ok (.iconst 2, 1) := by decide +kernel
theorem dX1_parts_21 : decode cX1_parts 21 = .ok (.ireturn, 1) := by decide +kernel
theorem dX1_unask_0 : decode cX1_unask 0 = .ok (.aload_n 0, 1) := by decide +kernel
theorem dX1_unask_1 : decode cX1_unask 1 = .ok (.getfield 32, 3) := by decide +kernel
theorem dX1_unask_4 : decode cX1_unask 4 = .ok (.ifCond .ne 5, 3) := by decide +kernel
theorem dX1_unask_7 : decode cX1_unask 7 = .ok (.iconst (-1), 1) := by decide +kernel
theorem dX1_unask_8 : decode cX1_unask 8 = .ok (.ireturn, 1) := by decide +kernel
theorem dX1_unask_9 : decode cX1_unask 9 = .ok (.aload_n 0, 1) := by decide +kernel
theorem dX1_unask_10 : decode cX1_unask 10 = .ok (.dup, 1) := by decide +kernel
theorem dX1_unask_11 : decode cX1_unask 11 = .ok (.getfield 32, 3) := by decide +kernel
theorem dX1_unask_14 : decode cX1_unask 14 = .ok (.iconst 1, 1) := by decide +kernel
theorem dX1_unask_15 : decode cX1_unask 15 = .ok (.isub, 1) := by decide +kernel
theorem dX1_unask_16 : decode cX1_unask 16 = .ok (.putfield 32, 3) := by decide +kernel
theorem dX1_unask_19 : decode cX1_unask 19 = .ok (.aload_n 0, 1) := by decide +kernel
theorem dX1_unask_20 : decode cX1_unask 20 = .ok (.getfield 16, 3) := by decide +kernel
theorem dX1_unask_23 : decode cX1_unask 23 = .ok (.aload_n 0, 1) := by decide +kernel
theorem dX1_unask_24 : decode cX1_unask 24 = .ok (.getfield 32, 3) := by decide +kernel
theorem dX1_unask_27 : decode cX1_unask 27 = .ok (.iaload, 1) := by decide +kernel
theorem dX1_unask_28 : decode cX1_unask 28 = .ok (.ireturn, 1) := by decide +kernel
theorem dX1_complete_0 : decode cX1_complete 0 = .ok (.aload_n 0, 1) := by decide +kernel
theorem dX1_complete_1 : decode cX1_complete 1 = .ok (.invokevirtual 40, 3) := by decide +kernel
theorem dX1_complete_4 : decode cX1_complete 4 = .ok (.ifCond .ne 7, 3) := by decide +kernel
theorem dX1_complete_7 : decode cX1_complete 7 = .ok (.iconst 1, 1) := by decide +kernel
theorem dX1_complete_8 : decode cX1_complete 8 = .ok (.goto 4, 3) := by decide +kernel
theorem dX1_complete_11 : decode cX1_complete 11 = .ok (.iconst 0, 1) := by decide +kernel
theorem dX1_complete_12 : decode cX1_complete 12 = .ok (.ireturn, 1) := by decide +kernel
theorem dX1_holds_0 : decode cX1_holds 0 = .ok (.aload_n 0, 1) := by decide +kernel
theorem dX1_holds_1 : decode cX1_holds 1 = .ok (.iload_n 1, 1) := by decide +kernel
theorem dX1_holds_2 : decode cX1_holds 2 = .ok (.invokevirtual 28, 3) := by decide +kernel
theorem dX1_holds_5 : decode cX1_holds 5 = .ok (.ifCond .eq 10, 3) := by decide +kernel
theorem dX1_holds_8 : decode cX1_holds 8 = .ok (.aload_n 0, 1) := by decide +kernel
theorem dX1_holds_9 : decode cX1_holds 9 = .ok (.invokevirtual 59, 3) := by decide +kernel
theorem dX1_holds_12 : decode cX1_holds 12 = .ok (.ifCond .ne 5, 3) := by decide +kernel
theorem dX1_holds_15 : decode cX1_holds 15 = .ok (.iconst 0, 1) := by decide +kernel
theorem dX1_holds_16 : decode cX1_holds 16 = .ok (.ireturn, 1) := by decide +kernel
theorem dX1_holds_17 : decode cX1_holds 17 = .ok (.aload_n 0, 1) := by decide +kernel
theorem dX1_holds_18 : decode cX1_holds 18 = .ok (.iload_n 1, 1) := by decide +kernel
theorem dX1_holds_19 : decode cX1_holds 19 = .ok (.invokevirtual 63, 3) := by decide +kernel
theorem dX1_holds_22 : decode cX1_holds 22 = .ok (.aload_n 0, 1) := by decide +kernel
theorem dX1_holds_23 : decode cX1_holds 23 = .ok (.getfield 19, 3) := by decide +kernel
theorem dX1_holds_26 : decode cX1_holds 26 = .ok (.iconst 0, 1) := by decide +kernel
theorem dX1_holds_27 : decode cX1_holds 27 = .ok (.iaload, 1) := by decide +kernel
theorem dX1_holds_28 : decode cX1_holds 28 = .ok (.iconst 1, 1) := by decide +kernel
theorem dX1_holds_29 : decode cX1_holds 29 = .ok (.if_icmp .ne 7, 3) := by decide +kernel
theorem dX1_holds_32 : decode cX1_holds 32 = .ok (.iconst 1, 1) := by decide +kernel
theorem dX1_holds_33 : decode cX1_holds 33 = .ok (.goto 4, 3) := by decide +kernel
theorem dX1_holds_36 : decode cX1_holds 36 = .ok (.iconst 0, 1) := by decide +kernel
theorem dX1_holds_37 : decode cX1_holds 37 = .ok (.ireturn, 1) := by decide +kernel
theorem dX1_work_0 : decode cX1_work 0 = .ok (.iconst 0, 1) := by decide +kernel
theorem dX1_work_1 : decode cX1_work 1 = .ok (.istore_n 2, 1) := by decide +kernel
theorem dX1_work_2 : decode cX1_work 2 = .ok (.aload_n 0, 1) := by decide +kernel
theorem dX1_work_3 : decode cX1_work 3 = .ok (.getfield 32, 3) := by decide +kernel
theorem dX1_work_6 : decode cX1_work 6 = .ok (.iconst 1, 1) := by decide +kernel
theorem dX1_work_7 : decode cX1_work 7 = .ok (.isub, 1) := by decide +kernel
theorem dX1_work_8 : decode cX1_work 8 = .ok (.istore_n 3, 1) := by decide +kernel
theorem dX1_work_9 : decode cX1_work 9 = .ok (.iload_n 3, 1) := by decide +kernel
theorem dX1_work_10 : decode cX1_work 10 = .ok (.ifCond .lt 278, 3) := by decide +kernel
theorem dX1_work_13 : decode cX1_work 13 = .ok (.aload_n 0, 1) := by decide +kernel
theorem dX1_work_14 : decode cX1_work 14 = .ok (.getfield 16, 3) := by decide +kernel
theorem dX1_work_17 : decode cX1_work 17 = .ok (.iload_n 3, 1) := by decide +kernel
theorem dX1_work_18 : decode cX1_work 18 = .ok (.iaload, 1) := by decide +kernel
theorem dX1_work_19 : decode cX1_work 19 = .ok (.istore 4, 2) := by decide +kernel
theorem dX1_work_21 : decode cX1_work 21 = .ok (.aload_n 0, 1) := by decide +kernel
theorem dX1_work_22 : decode cX1_work 22 = .ok (.iload 4, 2) := by decide +kernel
theorem dX1_work_24 : decode cX1_work 24 = .ok (.invokevirtual 36, 3) := by decide +kernel
theorem dX1_work_27 : decode cX1_work 27 = .ok (.istore 5, 2) := by decide +kernel
theorem dX1_work_29 : decode cX1_work 29 = .ok (.iload_n 2, 1) := by decide +kernel
theorem dX1_work_30 : decode cX1_work 30 = .ok (.iconst 1, 1) := by decide +kernel
theorem dX1_work_31 : decode cX1_work 31 = .ok (.if_icmp .lt 14, 3) := by decide +kernel
theorem dX1_work_34 : decode cX1_work 34 = .ok (.aload_n 0, 1) := by decide +kernel
theorem dX1_work_35 : decode cX1_work 35 = .ok (.getfield 22, 3) := by decide +kernel
theorem dX1_work_38 : decode cX1_work 38 = .ok (.iload_n 2, 1) := by decide +kernel
theorem dX1_work_39 : decode cX1_work 39 = .ok (.iconst 1, 1) := by decide +kernel
theorem dX1_work_40 : decode cX1_work 40 = .ok (.isub, 1) := by decide +kernel
theorem dX1_work_41 : decode cX1_work 41 = .ok (.iaload, 1) := by decide +kernel
theorem dX1_work_42 : decode cX1_work 42 = .ok (.goto 4, 3) := by decide +kernel
theorem dX1_work_45 : decode cX1_work 45 = .ok (.iconst 0, 1) := by decide +kernel
theorem dX1_work_46 : decode cX1_work 46 = .ok (.istore 6, 2) := by decide +kernel
theorem dX1_work_48 : decode cX1_work 48 = .ok (.iload_n 2, 1) := by decide +kernel
theorem dX1_work_49 : decode cX1_work 49 = .ok (.iconst 2, 1) := by decide +kernel
theorem dX1_work_50 : decode cX1_work 50 = .ok (.if_icmp .lt 14, 3) := by decide +kernel
theorem dX1_work_53 : decode cX1_work 53 = .ok (.aload_n 0, 1) := by decide +kernel
theorem dX1_work_54 : decode cX1_work 54 = .ok (.getfield 22, 3) := by decide +kernel
theorem dX1_work_57 : decode cX1_work 57 = .ok (.iload_n 2, 1) := by decide +kernel
theorem dX1_work_58 : decode cX1_work 58 = .ok (.iconst 2, 1) := by decide +kernel
theorem dX1_work_59 : decode cX1_work 59 = .ok (.isub, 1) := by decide +kernel
theorem dX1_work_60 : decode cX1_work 60 = .ok (.iaload, 1) := by decide +kernel
theorem dX1_work_61 : decode cX1_work 61 = .ok (.goto 4, 3) := by decide +kernel
theorem dX1_work_64 : decode cX1_work 64 = .ok (.iconst 0, 1) := by decide +kernel
theorem dX1_work_65 : decode cX1_work 65 = .ok (.istore 7, 2) := by decide +kernel
theorem dX1_work_67 : decode cX1_work 67 = .ok (.iload 4, 2) := by decide +kernel
theorem dX1_work_69 : decode cX1_work 69 = .ok (.bipush 20, 2) := by decide +kernel
theorem dX1_work_71 : decode cX1_work 71 = .ok (.if_icmp .lt 145, 3) := by decide +kernel
theorem dX1_work_74 : decode cX1_work 74 = .ok (.aload_n 0, 1) := by decide +kernel
theorem dX1_work_75 : decode cX1_work 75 = .ok (.getfield 19, 3) := by decide +kernel
theorem dX1_work_78 : decode cX1_work 78 = .ok (.bipush 24, 2) := by decide +kernel
theorem dX1_work_80 : decode cX1_work 80 = .ok (.iload 6, 2) := by decide +kernel
theorem dX1_work_82 : decode cX1_work 82 = .ok (.imul, 1) := by decide +kernel
theorem dX1_work_83 : decode cX1_work 83 = .ok (.iaload, 1) := by decide +kernel
theorem dX1_work_84 : decode cX1_work 84 = .ok (.iconst 1, 1) := by decide +kernel
theorem dX1_work_85 : decode cX1_work 85 = .ok (.if_icmp .ne 7, 3) := by decide +kernel
theorem dX1_work_88 : decode cX1_work 88 = .ok (.iconst 1, 1) := by decide +kernel
theorem dX1_work_89 : decode cX1_work 89 = .ok (.goto 4, 3) := by decide +kernel
theorem dX1_work_92 : decode cX1_work 92 = .ok (.iconst 0, 1) := by decide +kernel
theorem dX1_work_93 : decode cX1_work 93 = .ok (.istore 8, 2) := by decide +kernel
theorem dX1_work_95 : decode cX1_work 95 = .ok (.aload_n 0, 1) := by decide +kernel
theorem dX1_work_96 : decode cX1_work 96 = .ok (.getfield 19, 3) := by decide +kernel
theorem dX1_work_99 : decode cX1_work 99 = .ok (.bipush 24, 2) := by decide +kernel
theorem dX1_work_101 : decode cX1_work 101 = .ok (.iload 7, 2) := by decide +kernel
theorem dX1_work_103 : decode cX1_work 103 = .ok (.imul, 1) := by decide +kernel
theorem dX1_work_104 : decode cX1_work 104 = .ok (.iaload, 1) := by decide +kernel
theorem dX1_work_105 : decode cX1_work 105 = .ok (.iconst 1, 1) := by decide +kernel
theorem dX1_work_106 : decode cX1_work 106 = .ok (.if_icmp .ne 7, 3) := by decide +kernel
theorem dX1_work_109 : decode cX1_work 109 = .ok (.iconst 1, 1) := by decide +kernel
theorem dX1_work_110 : decode cX1_work 110 = .ok (.goto 4, 3) := by decide +kernel
theorem dX1_work_113 : decode cX1_work 113 = .ok (.iconst 0, 1) := by decide +kernel
theorem dX1_work_114 : decode cX1_work 114 = .ok (.istore 9, 2) := by decide +kernel
theorem dX1_work_116 : decode cX1_work 116 = .ok (.iload 4, 2) := by decide +kernel
theorem dX1_work_118 : decode cX1_work 118 = .ok (.bipush 20, 2) := by decide +kernel
theorem dX1_work_120 : decode cX1_work 120 = .ok (.if_icmp .ne 21, 3) := by decide +kernel
theorem dX1_work_123 : decode cX1_work 123 = .ok (.iload 8, 2) := by decide +kernel
theorem dX1_work_125 : decode cX1_work 125 = .ok (.ifCond .eq 12, 3) := by decide +kernel
theorem dX1_work_128 : decode cX1_work 128 = .ok (.iload 9, 2) := by decide +kernel
theorem dX1_work_130 : decode cX1_work 130 = .ok (.ifCond .eq 7, 3) := by decide +kernel
theorem dX1_work_133 : decode cX1_work 133 = .ok (.iconst 1, 1) := by decide +kernel
theorem dX1_work_134 : decode cX1_work 134 = .ok (.goto 58, 3) := by decide +kernel
theorem dX1_work_137 : decode cX1_work 137 = .ok (.iconst 0, 1) := by decide +kernel
theorem dX1_work_138 : decode cX1_work 138 = .ok (.goto 54, 3) := by decide +kernel
theorem dX1_work_141 : decode cX1_work 141 = .ok (.iload 4, 2) := by decide +kernel
theorem dX1_work_143 : decode cX1_work 143 = .ok (.bipush 21, 2) := by decide +kernel
theorem dX1_work_145 : decode cX1_work 145 = .ok (.if_icmp .ne 21, 3) := by decide +kernel
theorem dX1_work_148 : decode cX1_work 148 = .ok (.iload 8, 2) := by decide +kernel
theorem dX1_work_150 : decode cX1_work 150 = .ok (.ifCond .ne 8, 3) := by decide +kernel
theorem dX1_work_153 : decode cX1_work 153 = .ok (.iload 9, 2) := by decide +kernel
theorem dX1_work_155 : decode cX1_work 155 = .ok (.ifCond .eq 7, 3) := by decide +kernel
theorem dX1_work_158 : decode cX1_work 158 = .ok (.iconst 1, 1) := by decide +kernel
theorem dX1_work_159 : decode cX1_work 159 = .ok (.goto 33, 3) := by decide +kernel
theorem dX1_work_162 : decode cX1_work 162 = .ok (.iconst 0, 1) := by decide +kernel
theorem dX1_work_163 : decode cX1_work 163 = .ok (.goto 29, 3) := by decide +kernel
theorem dX1_work_166 : decode cX1_work 166 = .ok (.iload 4, 2) := by decide +kernel
theorem dX1_work_168 : decode cX1_work 168 = .ok (.bipush 22, 2) := by decide +kernel
theorem dX1_work_170 : decode cX1_work 170 = .ok (.if_icmp .ne 16, 3) := by decide +kernel
theorem dX1_work_173 : decode cX1_work 173 = .ok (.iload 8, 2) := by decide +kernel
theorem dX1_work_175 : decode cX1_work 175 = .ok (.ifCond .ne 7, 3) := by decide +kernel
theorem dX1_work_178 : decode cX1_work 178 = .ok (.iconst 1, 1) := by decide +kernel
theorem dX1_work_179 : decode cX1_work 179 = .ok (.goto 13, 3) := by decide +kernel
theorem dX1_work_182 : decode cX1_work 182 = .ok (.iconst 0, 1) := by decide +kernel
theorem dX1_work_183 : decode cX1_work 183 = .ok (.goto 9, 3) := by decide +kernel
theorem dX1_work_186 : decode cX1_work 186 = .ok (.aload_n 0, 1) := by decide +kernel
theorem dX1_work_187 : decode cX1_work 187 = .ok (.iload 6, 2) := by decide +kernel
theorem dX1_work_189 : decode cX1_work 189 = .ok (.invokevirtual 52, 3) := by decide +kernel
theorem dX1_work_192 : decode cX1_work 192 = .ok (.istore 10, 2) := by decide +kernel
theorem dX1_work_194 : decode cX1_work 194 = .ok (.aload_n 0, 1) := by decide +kernel
theorem dX1_work_195 : decode cX1_work 195 = .ok (.getfield 19, 3) := by decide +kernel
theorem dX1_work_198 : decode cX1_work 198 = .ok (.bipush 24, 2) := by decide +kernel
theorem dX1_work_200 : decode cX1_work 200 = .ok (.iload_n 3, 1) := by decide +kernel
theorem dX1_work_201 : decode cX1_work 201 = .ok (.imul, 1) := by decide +kernel
theorem dX1_work_202 : decode cX1_work 202 = .ok (.iload 10, 2) := by decide +kernel
theorem dX1_work_204 : decode cX1_work 204 = .ok (.ifCond .eq 7, 3) := by decide +kernel
theorem dX1_work_207 : decode cX1_work 207 = .ok (.iconst 1, 1) := by decide +kernel
theorem dX1_work_208 : decode cX1_work 208 = .ok (.goto 4, 3) := by decide +kernel
theorem dX1_work_211 : decode cX1_work 211 = .ok (.iconst 0, 1) := by decide +kernel
theorem dX1_work_212 : decode cX1_work 212 = .ok (.iastore, 1) := by decide +kernel
theorem dX1_work_213 : decode cX1_work 213 = .ok (.goto 44, 3) := by decide +kernel
theorem dX1_work_216 : decode cX1_work 216 = .ok (.iconst 0, 1) := by decide +kernel
theorem dX1_work_217 : decode cX1_work 217 = .ok (.istore 8, 2) := by decide +kernel
theorem dX1_work_219 : decode cX1_work 219 = .ok (.iload 8, 2) := by decide +kernel
theorem dX1_work_221 : decode cX1_work 221 = .ok (.bipush 24, 2) := by decide +kernel
theorem dX1_work_223 : decode cX1_work 223 = .ok (.if_icmp .ge 34, 3) := by decide +kernel
theorem dX1_work_226 : decode cX1_work 226 = .ok (.aload_n 0, 1) := by decide +kernel
theorem dX1_work_227 : decode cX1_work 227 = .ok (.getfield 19, 3) := by decide +kernel
theorem dX1_work_230 : decode cX1_work 230 = .ok (.bipush 24, 2) := by decide +kernel
theorem dX1_work_232 : decode cX1_work 232 = .ok (.iload_n 3, 1) := by decide +kernel
theorem dX1_work_233 : decode cX1_work 233 = .ok (.imul, 1) := by decide +kernel
theorem dX1_work_234 : decode cX1_work 234 = .ok (.iload 8, 2) := by decide +kernel
theorem dX1_work_236 : decode cX1_work 236 = .ok (.iadd, 1) := by decide +kernel
theorem dX1_work_237 : decode cX1_work 237 = .ok (.aload_n 0, 1) := by decide +kernel
theorem dX1_work_238 : decode cX1_work 238 = .ok (.iload 4, 2) := by decide +kernel
theorem dX1_work_240 : decode cX1_work 240 = .ok (.iload 6, 2) := by decide +kernel
theorem dX1_work_242 : decode cX1_work 242 = .ok (.iload 7, 2) := by decide +kernel
theorem dX1_work_244 : decode cX1_work 244 = .ok (.iload_n 1, 1) := by decide +kernel
theorem dX1_work_245 : decode cX1_work 245 = .ok (.iload 8, 2) := by decide +kernel
theorem dX1_work_247 : decode cX1_work 247 = .ok (.invokevirtual 55, 3) := by decide +kernel
theorem dX1_work_250 : decode cX1_work 250 = .ok (.iastore, 1) := by decide +kernel
theorem dX1_work_251 : decode cX1_work 251 = .ok (.iinc 8 1, 3) := by decide +kernel
theorem dX1_work_254 : decode cX1_work 254 = .ok (.goto (-35), 3) := by decide +kernel
theorem dX1_work_257 : decode cX1_work 257 = .ok (.iload_n 2, 1) := by decide +kernel
theorem dX1_work_258 : decode cX1_work 258 = .ok (.iload 5, 2) := by decide +kernel
end
section
set_option maxRecDepth 100000
theorem dX1_work_260 : decode cX1_work 260 = .ok (.if_icmp .lt 10, 3) := by decide +kernel
theorem dX1_work_263 : decode cX1_work 263 = .ok (.iload_n 2, 1) := by decide +kernel
theorem dX1_work_264 : decode cX1_work 264 = .ok (.iload 5, 2) := by decide +kernel
theorem dX1_work_266 : decode cX1_work 266 = .ok (.isub, 1) := by decide +kernel
theorem dX1_work_267 : decode cX1_work 267 = .ok (.goto 4, 3) := by decide +kernel
theorem dX1_work_270 : decode cX1_work 270 = .ok (.iconst 0, 1) := by decide +kernel
theorem dX1_work_271 : decode cX1_work 271 = .ok (.istore_n 2, 1) := by decide +kernel
theorem dX1_work_272 : decode cX1_work 272 = .ok (.aload_n 0, 1) := by decide +kernel
theorem dX1_work_273 : decode cX1_work 273 = .ok (.getfield 22, 3) := by decide +kernel
theorem dX1_work_276 : decode cX1_work 276 = .ok (.iload_n 2, 1) := by decide +kernel
theorem dX1_work_277 : decode cX1_work 277 = .ok (.iload_n 3, 1) := by decide +kernel
theorem dX1_work_278 : decode cX1_work 278 = .ok (.iastore, 1) := by decide +kernel
theorem dX1_work_279 : decode cX1_work 279 = .ok (.iinc 2 1, 3) := by decide +kernel
theorem dX1_work_282 : decode cX1_work 282 = .ok (.iinc 3 (-1), 3) := by decide +kernel
theorem dX1_work_285 : decode cX1_work 285 = .ok (.goto (-276), 3) := by decide +kernel
theorem dX1_work_288 : decode cX1_work 288 = .ok (.return_, 1) := by decide +kernel
theorem dX1_some_0 : decode cX1_some 0 = .ok (.iconst 0, 1) := by decide +kernel
theorem dX1_some_1 : decode cX1_some 1 = .ok (.istore_n 2, 1) := by decide +kernel
theorem dX1_some_2 : decode cX1_some 2 = .ok (.iconst 0, 1) := by decide +kernel
theorem dX1_some_3 : decode cX1_some 3 = .ok (.istore_n 3, 1) := by decide +kernel
theorem dX1_some_4 : decode cX1_some 4 = .ok (.iload_n 3, 1) := by decide +kernel
theorem dX1_some_5 : decode cX1_some 5 = .ok (.bipush 24, 2) := by decide +kernel
theorem dX1_some_7 : decode cX1_some 7 = .ok (.if_icmp .ge 23, 3) := by decide +kernel
theorem dX1_some_10 : decode cX1_some 10 = .ok (.iload_n 2, 1) := by decide +kernel
theorem dX1_some_11 : decode cX1_some 11 = .ok (.aload_n 0, 1) := by decide +kernel
theorem dX1_some_12 : decode cX1_some 12 = .ok (.getfield 19, 3) := by decide +kernel
theorem dX1_some_15 : decode cX1_some 15 = .ok (.bipush 24, 2) := by decide +kernel
theorem dX1_some_17 : decode cX1_some 17 = .ok (.iload_n 1, 1) := by decide +kernel
theorem dX1_some_18 : decode cX1_some 18 = .ok (.imul, 1) := by decide +kernel
theorem dX1_some_19 : decode cX1_some 19 = .ok (.iload_n 3, 1) := by decide +kernel
theorem dX1_some_20 : decode cX1_some 20 = .ok (.iadd, 1) := by decide +kernel
theorem dX1_some_21 : decode cX1_some 21 = .ok (.iaload, 1) := by decide +kernel
theorem dX1_some_22 : decode cX1_some 22 = .ok (.ior, 1) := by decide +kernel
theorem dX1_some_23 : decode cX1_some 23 = .ok (.istore_n 2, 1) := by decide +kernel
theorem dX1_some_24 : decode cX1_some 24 = .ok (.iinc 3 1, 3) := by decide +kernel
theorem dX1_some_27 : decode cX1_some 27 = .ok (.goto (-23), 3) := by decide +kernel
theorem dX1_some_30 : decode cX1_some 30 = .ok (.iload_n 2, 1) := by decide +kernel
theorem dX1_some_31 : decode cX1_some 31 = .ok (.ifCond .eq 7, 3) := by decide +kernel
theorem dX1_some_34 : decode cX1_some 34 = .ok (.iconst 1, 1) := by decide +kernel
theorem dX1_some_35 : decode cX1_some 35 = .ok (.goto 4, 3) := by decide +kernel
theorem dX1_some_38 : decode cX1_some 38 = .ok (.iconst 0, 1) := by decide +kernel
theorem dX1_some_39 : decode cX1_some 39 = .ok (.ireturn, 1) := by decide +kernel
theorem dX1_spansAt_0 : decode cX1_spansAt 0 = .ok (.iload_n 1, 1) := by decide +kernel
theorem dX1_spansAt_1 : decode cX1_spansAt 1 = .ok (.bipush 11, 2) := by decide +kernel
theorem dX1_spansAt_3 : decode cX1_spansAt 3 = .ok (.if_icmp .gt 41, 3) := by decide +kernel
theorem dX1_spansAt_6 : decode cX1_spansAt 6 = .ok (.iload 5, 2) := by decide +kernel
theorem dX1_spansAt_8 : decode cX1_spansAt 8 = .ok (.aload_n 0, 1) := by decide +kernel
theorem dX1_spansAt_9 : decode cX1_spansAt 9 = .ok (.getfield 7, 3) := by decide +kernel
theorem dX1_spansAt_12 : decode cX1_spansAt 12 = .ok (.iload 4, 2) := by decide +kernel
theorem dX1_spansAt_14 : decode cX1_spansAt 14 = .ok (.iaload, 1) := by decide +kernel
theorem dX1_spansAt_15 : decode cX1_spansAt 15 = .ok (.if_icmp .ge 27, 3) := by decide +kernel
theorem dX1_spansAt_18 : decode cX1_spansAt 18 = .ok (.aload_n 0, 1) := by decide +kernel
theorem dX1_spansAt_19 : decode cX1_spansAt 19 = .ok (.getfield 13, 3) := by decide +kernel
theorem dX1_spansAt_22 : decode cX1_spansAt 22 = .ok (.bipush 24, 2) := by decide +kernel
theorem dX1_spansAt_24 : decode cX1_spansAt 24 = .ok (.iload 4, 2) := by decide +kernel
theorem dX1_spansAt_26 : decode cX1_spansAt 26 = .ok (.imul, 1) := by decide +kernel
theorem dX1_spansAt_27 : decode cX1_spansAt 27 = .ok (.iload 5, 2) := by decide +kernel
theorem dX1_spansAt_29 : decode cX1_spansAt 29 = .ok (.iadd, 1) := by decide +kernel
theorem dX1_spansAt_30 : decode cX1_spansAt 30 = .ok (.iaload, 1) := by decide +kernel
theorem dX1_spansAt_31 : decode cX1_spansAt 31 = .ok (.iload_n 1, 1) := by decide +kernel
theorem dX1_spansAt_32 : decode cX1_spansAt 32 = .ok (.if_icmp .ne 10, 3) := by decide +kernel
theorem dX1_spansAt_35 : decode cX1_spansAt 35 = .ok (.iconst 1, 1) := by decide +kernel
theorem dX1_spansAt_36 : decode cX1_spansAt 36 = .ok (.iload 5, 2) := by decide +kernel
theorem dX1_spansAt_38 : decode cX1_spansAt 38 = .ok (.ishl, 1) := by decide +kernel
theorem dX1_spansAt_39 : decode cX1_spansAt 39 = .ok (.goto 4, 3) := by decide +kernel
theorem dX1_spansAt_42 : decode cX1_spansAt 42 = .ok (.iconst 0, 1) := by decide +kernel
theorem dX1_spansAt_43 : decode cX1_spansAt 43 = .ok (.ireturn, 1) := by decide +kernel
theorem dX1_spansAt_44 : decode cX1_spansAt 44 = .ok (.aload_n 0, 1) := by decide +kernel
theorem dX1_spansAt_45 : decode cX1_spansAt 45 = .ok (.getfield 19, 3) := by decide +kernel
theorem dX1_spansAt_48 : decode cX1_spansAt 48 = .ok (.bipush 24, 2) := by decide +kernel
theorem dX1_spansAt_50 : decode cX1_spansAt 50 = .ok (.iload_n 2, 1) := by decide +kernel
theorem dX1_spansAt_51 : decode cX1_spansAt 51 = .ok (.imul, 1) := by decide +kernel
theorem dX1_spansAt_52 : decode cX1_spansAt 52 = .ok (.iload 5, 2) := by decide +kernel
theorem dX1_spansAt_54 : decode cX1_spansAt 54 = .ok (.iadd, 1) := by decide +kernel
theorem dX1_spansAt_55 : decode cX1_spansAt 55 = .ok (.iaload, 1) := by decide +kernel
theorem dX1_spansAt_56 : decode cX1_spansAt 56 = .ok (.istore 6, 2) := by decide +kernel
theorem dX1_spansAt_58 : decode cX1_spansAt 58 = .ok (.iload_n 1, 1) := by decide +kernel
theorem dX1_spansAt_59 : decode cX1_spansAt 59 = .ok (.bipush 12, 2) := by decide +kernel
theorem dX1_spansAt_61 : decode cX1_spansAt 61 = .ok (.if_icmp .ne 19, 3) := by decide +kernel
theorem dX1_spansAt_64 : decode cX1_spansAt 64 = .ok (.iload 6, 2) := by decide +kernel
theorem dX1_spansAt_66 : decode cX1_spansAt 66 = .ok (.aload_n 0, 1) := by decide +kernel
theorem dX1_spansAt_67 : decode cX1_spansAt 67 = .ok (.getfield 19, 3) := by decide +kernel
theorem dX1_spansAt_70 : decode cX1_spansAt 70 = .ok (.bipush 24, 2) := by decide +kernel
theorem dX1_spansAt_72 : decode cX1_spansAt 72 = .ok (.iload_n 3, 1) := by decide +kernel
theorem dX1_spansAt_73 : decode cX1_spansAt 73 = .ok (.imul, 1) := by decide +kernel
theorem dX1_spansAt_74 : decode cX1_spansAt 74 = .ok (.iload 5, 2) := by decide +kernel
theorem dX1_spansAt_76 : decode cX1_spansAt 76 = .ok (.iadd, 1) := by decide +kernel
theorem dX1_spansAt_77 : decode cX1_spansAt 77 = .ok (.iaload, 1) := by decide +kernel
theorem dX1_spansAt_78 : decode cX1_spansAt 78 = .ok (.ior, 1) := by decide +kernel
theorem dX1_spansAt_79 : decode cX1_spansAt 79 = .ok (.ireturn, 1) := by decide +kernel
theorem dX1_spansAt_80 : decode cX1_spansAt 80 = .ok (.iload_n 1, 1) := by decide +kernel
theorem dX1_spansAt_81 : decode cX1_spansAt 81 = .ok (.bipush 18, 2) := by decide +kernel
theorem dX1_spansAt_83 : decode cX1_spansAt 83 = .ok (.if_icmp .ne 16, 3) := by decide +kernel
theorem dX1_spansAt_86 : decode cX1_spansAt 86 = .ok (.iload 6, 2) := by decide +kernel
theorem dX1_spansAt_88 : decode cX1_spansAt 88 = .ok (.aload_n 0, 1) := by decide +kernel
theorem dX1_spansAt_89 : decode cX1_spansAt 89 = .ok (.iload 5, 2) := by decide +kernel
theorem dX1_spansAt_91 : decode cX1_spansAt 91 = .ok (.iload_n 3, 1) := by decide +kernel
theorem dX1_spansAt_92 : decode cX1_spansAt 92 = .ok (.invokevirtual 44, 3) := by decide +kernel
theorem dX1_spansAt_95 : decode cX1_spansAt 95 = .ok (.iand, 1) := by decide +kernel
theorem dX1_spansAt_96 : decode cX1_spansAt 96 = .ok (.goto 14, 3) := by decide +kernel
theorem dX1_spansAt_99 : decode cX1_spansAt 99 = .ok (.aload_n 0, 1) := by decide +kernel
theorem dX1_spansAt_100 : decode cX1_spansAt 100 = .ok (.iload 6, 2) := by decide +kernel
theorem dX1_spansAt_102 : decode cX1_spansAt 102 = .ok (.iload_n 3, 1) := by decide +kernel
theorem dX1_spansAt_103 : decode cX1_spansAt 103 = .ok (.iload_n 1, 1) := by decide +kernel
theorem dX1_spansAt_104 : decode cX1_spansAt 104 = .ok (.bipush 13, 2) := by decide +kernel
theorem dX1_spansAt_106 : decode cX1_spansAt 106 = .ok (.isub, 1) := by decide +kernel
theorem dX1_spansAt_107 : decode cX1_spansAt 107 = .ok (.invokevirtual 48, 3) := by decide +kernel
theorem dX1_spansAt_110 : decode cX1_spansAt 110 = .ok (.ireturn, 1) := by decide +kernel
theorem dX1_within_0 : decode cX1_within 0 = .ok (.iconst 0, 1) := by decide +kernel
theorem dX1_within_1 : decode cX1_within 1 = .ok (.istore_n 3, 1) := by decide +kernel
theorem dX1_within_2 : decode cX1_within 2 = .ok (.iconst 0, 1) := by decide +kernel
theorem dX1_within_3 : decode cX1_within 3 = .ok (.istore 4, 2) := by decide +kernel
theorem dX1_within_5 : decode cX1_within 5 = .ok (.iload 4, 2) := by decide +kernel
theorem dX1_within_7 : decode cX1_within 7 = .ok (.iload_n 1, 1) := by decide +kernel
theorem dX1_within_8 : decode cX1_within 8 = .ok (.if_icmp .gt 59, 3) := by decide +kernel
theorem dX1_within_11 : decode cX1_within 11 = .ok (.iconst 0, 1) := by decide +kernel
theorem dX1_within_12 : decode cX1_within 12 = .ok (.istore 5, 2) := by decide +kernel
theorem dX1_within_14 : decode cX1_within 14 = .ok (.iload 5, 2) := by decide +kernel
theorem dX1_within_16 : decode cX1_within 16 = .ok (.bipush 24, 2) := by decide +kernel
theorem dX1_within_18 : decode cX1_within 18 = .ok (.if_icmp .ge 43, 3) := by decide +kernel
theorem dX1_within_21 : decode cX1_within 21 = .ok (.aload_n 0, 1) := by decide +kernel
theorem dX1_within_22 : decode cX1_within 22 = .ok (.getfield 19, 3) := by decide +kernel
theorem dX1_within_25 : decode cX1_within 25 = .ok (.bipush 24, 2) := by decide +kernel
theorem dX1_within_27 : decode cX1_within 27 = .ok (.iload_n 2, 1) := by decide +kernel
theorem dX1_within_28 : decode cX1_within 28 = .ok (.imul, 1) := by decide +kernel
theorem dX1_within_29 : decode cX1_within 29 = .ok (.iload 4, 2) := by decide +kernel
theorem dX1_within_31 : decode cX1_within 31 = .ok (.iadd, 1) := by decide +kernel
theorem dX1_within_32 : decode cX1_within 32 = .ok (.iaload, 1) := by decide +kernel
theorem dX1_within_33 : decode cX1_within 33 = .ok (.iload 5, 2) := by decide +kernel
theorem dX1_within_35 : decode cX1_within 35 = .ok (.ishr, 1) := by decide +kernel
theorem dX1_within_36 : decode cX1_within 36 = .ok (.iconst 1, 1) := by decide +kernel
theorem dX1_within_37 : decode cX1_within 37 = .ok (.iand, 1) := by decide +kernel
theorem dX1_within_38 : decode cX1_within 38 = .ok (.iconst 1, 1) := by decide +kernel
theorem dX1_within_39 : decode cX1_within 39 = .ok (.if_icmp .ne 14, 3) := by decide +kernel
theorem dX1_within_42 : decode cX1_within 42 = .ok (.iload_n 3, 1) := by decide +kernel
theorem dX1_within_43 : decode cX1_within 43 = .ok (.iconst 2, 1) := by decide +kernel
theorem dX1_within_44 : decode cX1_within 44 = .ok (.iload 5, 2) := by decide +kernel
theorem dX1_within_46 : decode cX1_within 46 = .ok (.ishl, 1) := by decide +kernel
theorem dX1_within_47 : decode cX1_within 47 = .ok (.iconst 1, 1) := by decide +kernel
theorem dX1_within_48 : decode cX1_within 48 = .ok (.isub, 1) := by decide +kernel
theorem dX1_within_49 : decode cX1_within 49 = .ok (.ior, 1) := by decide +kernel
theorem dX1_within_50 : decode cX1_within 50 = .ok (.goto 4, 3) := by decide +kernel
theorem dX1_within_53 : decode cX1_within 53 = .ok (.iload_n 3, 1) := by decide +kernel
theorem dX1_within_54 : decode cX1_within 54 = .ok (.istore_n 3, 1) := by decide +kernel
theorem dX1_within_55 : decode cX1_within 55 = .ok (.iinc 5 1, 3) := by decide +kernel
theorem dX1_within_58 : decode cX1_within 58 = .ok (.goto (-44), 3) := by decide +kernel
theorem dX1_within_61 : decode cX1_within 61 = .ok (.iinc 4 1, 3) := by decide +kernel
theorem dX1_within_64 : decode cX1_within 64 = .ok (.goto (-59), 3) := by decide +kernel
theorem dX1_within_67 : decode cX1_within 67 = .ok (.iload_n 3, 1) := by decide +kernel
theorem dX1_within_68 : decode cX1_within 68 = .ok (.ireturn, 1) := by decide +kernel
theorem dX1_then_0 : decode cX1_then 0 = .ok (.iconst 0, 1) := by decide +kernel
theorem dX1_then_1 : decode cX1_then 1 = .ok (.istore 4, 2) := by decide +kernel
theorem dX1_then_3 : decode cX1_then 3 = .ok (.iconst 0, 1) := by decide +kernel
theorem dX1_then_4 : decode cX1_then 4 = .ok (.istore 5, 2) := by decide +kernel
theorem dX1_then_6 : decode cX1_then 6 = .ok (.iload 5, 2) := by decide +kernel
theorem dX1_then_8 : decode cX1_then 8 = .ok (.iload_n 3, 1) := by decide +kernel
theorem dX1_then_9 : decode cX1_then 9 = .ok (.iadd, 1) := by decide +kernel
theorem dX1_then_10 : decode cX1_then 10 = .ok (.bipush 24, 2) := by decide +kernel
theorem dX1_then_12 : decode cX1_then 12 = .ok (.if_icmp .ge 43, 3) := by decide +kernel
theorem dX1_then_15 : decode cX1_then 15 = .ok (.iload_n 1, 1) := by decide +kernel
theorem dX1_then_16 : decode cX1_then 16 = .ok (.iload 5, 2) := by decide +kernel
theorem dX1_then_18 : decode cX1_then 18 = .ok (.ishr, 1) := by decide +kernel
theorem dX1_then_19 : decode cX1_then 19 = .ok (.iconst 1, 1) := by decide +kernel
theorem dX1_then_20 : decode cX1_then 20 = .ok (.iand, 1) := by decide +kernel
theorem dX1_then_21 : decode cX1_then 21 = .ok (.iconst 1, 1) := by decide +kernel
theorem dX1_then_22 : decode cX1_then 22 = .ok (.if_icmp .ne 23, 3) := by decide +kernel
theorem dX1_then_25 : decode cX1_then 25 = .ok (.iload 4, 2) := by decide +kernel
theorem dX1_then_27 : decode cX1_then 27 = .ok (.aload_n 0, 1) := by decide +kernel
theorem dX1_then_28 : decode cX1_then 28 = .ok (.getfield 19, 3) := by decide +kernel
theorem dX1_then_31 : decode cX1_then 31 = .ok (.bipush 24, 2) := by decide +kernel
theorem dX1_then_33 : decode cX1_then 33 = .ok (.iload_n 2, 1) := by decide +kernel
theorem dX1_then_34 : decode cX1_then 34 = .ok (.imul, 1) := by decide +kernel
theorem dX1_then_35 : decode cX1_then 35 = .ok (.iload 5, 2) := by decide +kernel
theorem dX1_then_37 : decode cX1_then 37 = .ok (.iadd, 1) := by decide +kernel
theorem dX1_then_38 : decode cX1_then 38 = .ok (.iload_n 3, 1) := by decide +kernel
theorem dX1_then_39 : decode cX1_then 39 = .ok (.iadd, 1) := by decide +kernel
theorem dX1_then_40 : decode cX1_then 40 = .ok (.iaload, 1) := by decide +kernel
theorem dX1_then_41 : decode cX1_then 41 = .ok (.ior, 1) := by decide +kernel
theorem dX1_then_42 : decode cX1_then 42 = .ok (.goto 5, 3) := by decide +kernel
theorem dX1_then_45 : decode cX1_then 45 = .ok (.iload 4, 2) := by decide +kernel
theorem dX1_then_47 : decode cX1_then 47 = .ok (.istore 4, 2) := by decide +kernel
theorem dX1_then_49 : decode cX1_then 49 = .ok (.iinc 5 1, 3) := by decide +kernel
theorem dX1_then_52 : decode cX1_then 52 = .ok (.goto (-46), 3) := by decide +kernel
theorem dX1_then_55 : decode cX1_then 55 = .ok (.iload 4, 2) := by decide +kernel
theorem dX1_then_57 : decode cX1_then 57 = .ok (.ireturn, 1) := by decide +kernel
theorem dX1_matching_0 : decode cX1_matching 0 = .ok (.iconst 0, 1) := by decide +kernel
theorem dX1_matching_1 : decode cX1_matching 1 = .ok (.istore_n 1, 1) := by decide +kernel
theorem dX1_matching_2 : decode cX1_matching 2 = .ok (.iconst 0, 1) := by decide +kernel
theorem dX1_matching_3 : decode cX1_matching 3 = .ok (.istore_n 2, 1) := by decide +kernel
theorem dX1_matching_4 : decode cX1_matching 4 = .ok (.iload_n 2, 1) := by decide +kernel
theorem dX1_matching_5 : decode cX1_matching 5 = .ok (.bipush 6, 2) := by decide +kernel
theorem dX1_matching_7 : decode cX1_matching 7 = .ok (.if_icmp .ge 27, 3) := by decide +kernel
theorem dX1_matching_10 : decode cX1_matching 10 = .ok (.aload_n 0, 1) := by decide +kernel
theorem dX1_matching_11 : decode cX1_matching 11 = .ok (.iload_n 2, 1) := by decide +kernel
theorem dX1_matching_12 : decode cX1_matching 12 = .ok (.invokevirtual 67, 3) := by decide +kernel
theorem dX1_matching_15 : decode cX1_matching 15 = .ok (.ifCond .eq 11, 3) := by decide +kernel
theorem dX1_matching_18 : decode cX1_matching 18 = .ok (.iload_n 1, 1) := by decide +kernel
theorem dX1_matching_19 : decode cX1_matching 19 = .ok (.iconst 1, 1) := by decide +kernel
theorem dX1_matching_20 : decode cX1_matching 20 = .ok (.iload_n 2, 1) := by decide +kernel
theorem dX1_matching_21 : decode cX1_matching 21 = .ok (.ishl, 1) := by decide +kernel
theorem dX1_matching_22 : decode cX1_matching 22 = .ok (.ior, 1) := by decide +kernel
theorem dX1_matching_23 : decode cX1_matching 23 = .ok (.goto 4, 3) := by decide +kernel
theorem dX1_matching_26 : decode cX1_matching 26 = .ok (.iload_n 1, 1) := by decide +kernel
theorem dX1_matching_27 : decode cX1_matching 27 = .ok (.istore_n 1, 1) := by decide +kernel
theorem dX1_matching_28 : decode cX1_matching 28 = .ok (.iinc 2 1, 3) := by decide +kernel
theorem dX1_matching_31 : decode cX1_matching 31 = .ok (.goto (-27), 3) := by decide +kernel
theorem dX1_matching_34 : decode cX1_matching 34 = .ok (.iload_n 1, 1) := by decide +kernel
theorem dX1_matching_35 : decode cX1_matching 35 = .ok (.ireturn, 1) := by decide +kernel
theorem dX1_spans_0 : decode cX1_spans 0 = .ok (.aload_n 0, 1) := by decide +kernel
theorem dX1_spans_1 : decode cX1_spans 1 = .ok (.iload_n 1, 1) := by decide +kernel
theorem dX1_spans_2 : decode cX1_spans 2 = .ok (.iload_n 2, 1) := by decide +kernel
theorem dX1_spans_3 : decode cX1_spans 3 = .ok (.invokevirtual 70, 3) := by decide +kernel
theorem dX1_spans_6 : decode cX1_spans 6 = .ok (.istore_n 3, 1) := by decide +kernel
theorem dX1_spans_7 : decode cX1_spans 7 = .ok (.iload_n 3, 1) := by decide +kernel
theorem dX1_spans_8 : decode cX1_spans 8 = .ok (.ifCond .ge 7, 3) := by decide +kernel
theorem dX1_spans_11 : decode cX1_spans 11 = .ok (.iconst (-1), 1) := by decide +kernel
theorem dX1_spans_12 : decode cX1_spans 12 = .ok (.goto 4, 3) := by decide +kernel
theorem dX1_spans_15 : decode cX1_spans 15 = .ok (.iconst 0, 1) := by decide +kernel
theorem dX1_spans_16 : decode cX1_spans 16 = .ok (.istore 4, 2) := by decide +kernel
theorem dX1_spans_18 : decode cX1_spans 18 = .ok (.iconst 0, 1) := by decide +kernel
theorem dX1_spans_19 : decode cX1_spans 19 = .ok (.istore 5, 2) := by decide +kernel
theorem dX1_spans_21 : decode cX1_spans 21 = .ok (.iload 5, 2) := by decide +kernel
theorem dX1_spans_23 : decode cX1_spans 23 = .ok (.sipush 576, 3) := by decide +kernel
theorem dX1_spans_26 : decode cX1_spans 26 = .ok (.if_icmp .ge 41, 3) := by decide +kernel
theorem dX1_spans_29 : decode cX1_spans 29 = .ok (.iload_n 3, 1) := by decide +kernel
theorem dX1_spans_30 : decode cX1_spans 30 = .ok (.ifCond .lt 37, 3) := by decide +kernel
theorem dX1_spans_33 : decode cX1_spans 33 = .ok (.iload 4, 2) := by decide +kernel
theorem dX1_spans_35 : decode cX1_spans 35 = .ok (.aload_n 0, 1) := by decide +kernel
theorem dX1_spans_36 : decode cX1_spans 36 = .ok (.getfield 19, 3) := by decide +kernel
theorem dX1_spans_39 : decode cX1_spans 39 = .ok (.bipush 24, 2) := by decide +kernel
theorem dX1_spans_41 : decode cX1_spans 41 = .ok (.iload_n 3, 1) := by decide +kernel
theorem dX1_spans_42 : decode cX1_spans 42 = .ok (.imul, 1) := by decide +kernel
theorem dX1_spans_43 : decode cX1_spans 43 = .ok (.iload 5, 2) := by decide +kernel
theorem dX1_spans_45 : decode cX1_spans 45 = .ok (.bipush 24, 2) := by decide +kernel
theorem dX1_spans_47 : decode cX1_spans 47 = .ok (.idiv, 1) := by decide +kernel
theorem dX1_spans_48 : decode cX1_spans 48 = .ok (.iadd, 1) := by decide +kernel
theorem dX1_spans_49 : decode cX1_spans 49 = .ok (.iaload, 1) := by decide +kernel
theorem dX1_spans_50 : decode cX1_spans 50 = .ok (.iload 5, 2) := by decide +kernel
theorem dX1_spans_52 : decode cX1_spans 52 = .ok (.bipush 24, 2) := by decide +kernel
theorem dX1_spans_54 : decode cX1_spans 54 = .ok (.irem, 1) := by decide +kernel
theorem dX1_spans_55 : decode cX1_spans 55 = .ok (.ishr, 1) := by decide +kernel
theorem dX1_spans_56 : decode cX1_spans 56 = .ok (.iconst 1, 1) := by decide +kernel
theorem dX1_spans_57 : decode cX1_spans 57 = .ok (.iand, 1) := by decide +kernel
theorem dX1_spans_58 : decode cX1_spans 58 = .ok (.iadd, 1) := by decide +kernel
theorem dX1_spans_59 : decode cX1_spans 59 = .ok (.istore 4, 2) := by decide +kernel
theorem dX1_spans_61 : decode cX1_spans 61 = .ok (.iinc 5 1, 3) := by decide +kernel
theorem dX1_spans_64 : decode cX1_spans 64 = .ok (.goto (-43), 3) := by decide +kernel
theorem dX1_spans_67 : decode cX1_spans 67 = .ok (.iload 4, 2) := by decide +kernel
theorem dX1_spans_69 : decode cX1_spans 69 = .ok (.ireturn, 1) := by decide +kernel
theorem dX1_find_0 : decode cX1_find 0 = .ok (.aload_n 0, 1) := by decide +kernel
theorem dX1_find_1 : decode cX1_find 1 = .ok (.iload_n 2, 1) := by decide +kernel
theorem dX1_find_2 : decode cX1_find 2 = .ok (.invokevirtual 28, 3) := by decide +kernel
theorem dX1_find_5 : decode cX1_find 5 = .ok (.ifCond .eq 10, 3) := by decide +kernel
theorem dX1_find_8 : decode cX1_find 8 = .ok (.aload_n 0, 1) := by decide +kernel
theorem dX1_find_9 : decode cX1_find 9 = .ok (.invokevirtual 59, 3) := by decide +kernel
theorem dX1_find_12 : decode cX1_find 12 = .ok (.ifCond .ne 5, 3) := by decide +kernel
theorem dX1_find_15 : decode cX1_find 15 = .ok (.iconst (-1), 1) := by decide +kernel
theorem dX1_find_16 : decode cX1_find 16 = .ok (.ireturn, 1) := by decide +kernel
theorem dX1_find_17 : decode cX1_find 17 = .ok (.aload_n 0, 1) := by decide +kernel
theorem dX1_find_18 : decode cX1_find 18 = .ok (.iload_n 2, 1) := by decide +kernel
theorem dX1_find_19 : decode cX1_find 19 = .ok (.invokevirtual 63, 3) := by decide +kernel
theorem dX1_find_22 : decode cX1_find 22 = .ok (.iconst 0, 1) := by decide +kernel
theorem dX1_find_23 : decode cX1_find 23 = .ok (.istore_n 3, 1) := by decide +kernel
theorem dX1_find_24 : decode cX1_find 24 = .ok (.iconst 0, 1) := by decide +kernel
theorem dX1_find_25 : decode cX1_find 25 = .ok (.istore 4, 2) := by decide +kernel
theorem dX1_find_27 : decode cX1_find 27 = .ok (.iload 4, 2) := by decide +kernel
theorem dX1_find_29 : decode cX1_find 29 = .ok (.aload_n 0, 1) := by decide +kernel
theorem dX1_find_30 : decode cX1_find 30 = .ok (.getfield 32, 3) := by decide +kernel
theorem dX1_find_33 : decode cX1_find 33 = .ok (.if_icmp .ge 34, 3) := by decide +kernel
theorem dX1_find_36 : decode cX1_find 36 = .ok (.aload_n 0, 1) := by decide +kernel
theorem dX1_find_37 : decode cX1_find 37 = .ok (.getfield 16, 3) := by decide +kernel
theorem dX1_find_40 : decode cX1_find 40 = .ok (.iload 4, 2) := by decide +kernel
theorem dX1_find_42 : decode cX1_find 42 = .ok (.iaload, 1) := by decide +kernel
theorem dX1_find_43 : decode cX1_find 43 = .ok (.bipush 23, 2) := by decide +kernel
theorem dX1_find_45 : decode cX1_find 45 = .ok (.if_icmp .ne 16, 3) := by decide +kernel
theorem dX1_find_48 : decode cX1_find 48 = .ok (.iload_n 3, 1) := by decide +kernel
theorem dX1_find_49 : decode cX1_find 49 = .ok (.iload_n 1, 1) := by decide +kernel
theorem dX1_find_50 : decode cX1_find 50 = .ok (.if_icmp .ne 8, 3) := by decide +kernel
theorem dX1_find_53 : decode cX1_find 53 = .ok (.iload 4, 2) := by decide +kernel
theorem dX1_find_55 : decode cX1_find 55 = .ok (.iconst 1, 1) := by decide +kernel
theorem dX1_find_56 : decode cX1_find 56 = .ok (.iadd, 1) := by decide +kernel
theorem dX1_find_57 : decode cX1_find 57 = .ok (.ireturn, 1) := by decide +kernel
theorem dX1_find_58 : decode cX1_find 58 = .ok (.iinc 3 1, 3) := by decide +kernel
theorem dX1_find_61 : decode cX1_find 61 = .ok (.iinc 4 1, 3) := by decide +kernel
theorem dX1_find_64 : decode cX1_find 64 = .ok (.goto (-37), 3) := by decide +kernel
theorem dX1_find_67 : decode cX1_find 67 = .ok (.iconst (-1), 1) := by decide +kernel
theorem dX1_find_68 : decode cX1_find 68 = .ok (.ireturn, 1) := by decide +kernel
theorem dX1_begins_0 : decode cX1_begins 0 = .ok (.aload_n 0, 1) := by decide +kernel
theorem dX1_begins_1 : decode cX1_begins 1 = .ok (.iload_n 1, 1) := by decide +kernel
theorem dX1_begins_2 : decode cX1_begins 2 = .ok (.iload_n 2, 1) := by decide +kernel
theorem dX1_begins_3 : decode cX1_begins 3 = .ok (.invokevirtual 70, 3) := by decide +kernel
theorem dX1_begins_6 : decode cX1_begins 6 = .ok (.istore 4, 2) := by decide +kernel
theorem dX1_begins_8 : decode cX1_begins 8 = .ok (.iconst 0, 1) := by decide +kernel
theorem dX1_begins_9 : decode cX1_begins 9 = .ok (.istore 5, 2) := by decide +kernel
theorem dX1_begins_11 : decode cX1_begins 11 = .ok (.iload 5, 2) := by decide +kernel
theorem dX1_begins_13 : decode cX1_begins 13 = .ok (.bipush 24, 2) := by decide +kernel
theorem dX1_begins_15 : decode cX1_begins 15 = .ok (.if_icmp .ge 39, 3) := by decide +kernel
theorem dX1_begins_18 : decode cX1_begins 18 = .ok (.iload 4, 2) := by decide +kernel
theorem dX1_begins_20 : decode cX1_begins 20 = .ok (.ifCond .lt 34, 3) := by decide +kernel
theorem dX1_begins_23 : decode cX1_begins 23 = .ok (.iload 5, 2) := by decide +kernel
theorem dX1_begins_25 : decode cX1_begins 25 = .ok (.iload_n 3, 1) := by decide +kernel
theorem dX1_begins_26 : decode cX1_begins 26 = .ok (.if_icmp .lt 22, 3) := by decide +kernel
theorem dX1_begins_29 : decode cX1_begins 29 = .ok (.aload_n 0, 1) := by decide +kernel
theorem dX1_begins_30 : decode cX1_begins 30 = .ok (.getfield 19, 3) := by decide +kernel
theorem dX1_begins_33 : decode cX1_begins 33 = .ok (.bipush 24, 2) := by decide +kernel
theorem dX1_begins_35 : decode cX1_begins 35 = .ok (.iload 4, 2) := by decide +kernel
theorem dX1_begins_37 : decode cX1_begins 37 = .ok (.imul, 1) := by decide +kernel
theorem dX1_begins_38 : decode cX1_begins 38 = .ok (.iload 5, 2) := by decide +kernel
theorem dX1_begins_40 : decode cX1_begins 40 = .ok (.iadd, 1) := by decide +kernel
theorem dX1_begins_41 : decode cX1_begins 41 = .ok (.iaload, 1) := by decide +kernel
theorem dX1_begins_42 : decode cX1_begins 42 = .ok (.ifCond .eq 6, 3) := by decide +kernel
theorem dX1_begins_45 : decode cX1_begins 45 = .ok (.iload 5, 2) := by decide +kernel
theorem dX1_begins_47 : decode cX1_begins 47 = .ok (.ireturn, 1) := by decide +kernel
theorem dX1_begins_48 : decode cX1_begins 48 = .ok (.iinc 5 1, 3) := by decide +kernel
theorem dX1_begins_51 : decode cX1_begins 51 = .ok (.goto (-40), 3) := by decide +kernel
theorem dX1_begins_54 : decode cX1_begins 54 = .ok (.iconst (-1), 1) := by decide +kernel
theorem dX1_begins_55 : decode cX1_begins 55 = .ok (.ireturn, 1) := by decide +kernel
theorem dX1_ends_0 : decode cX1_ends 0 = .ok (.aload_n 0, 1) := by decide +kernel
theorem dX1_ends_1 : decode cX1_ends 1 = .ok (.iload_n 1, 1) := by decide +kernel
theorem dX1_ends_2 : decode cX1_ends 2 = .ok (.iload_n 2, 1) := by decide +kernel
theorem dX1_ends_3 : decode cX1_ends 3 = .ok (.invokevirtual 70, 3) := by decide +kernel
theorem dX1_ends_6 : decode cX1_ends 6 = .ok (.istore 4, 2) := by decide +kernel
theorem dX1_ends_8 : decode cX1_ends 8 = .ok (.iconst 0, 1) := by decide +kernel
theorem dX1_ends_9 : decode cX1_ends 9 = .ok (.istore 5, 2) := by decide +kernel
theorem dX1_ends_11 : decode cX1_ends 11 = .ok (.iload 5, 2) := by decide +kernel
theorem dX1_ends_13 : decode cX1_ends 13 = .ok (.bipush 24, 2) := by decide +kernel
theorem dX1_ends_15 : decode cX1_ends 15 = .ok (.if_icmp .ge 48, 3) := by decide +kernel
theorem dX1_ends_18 : decode cX1_ends 18 = .ok (.iload 4, 2) := by decide +kernel
theorem dX1_ends_20 : decode cX1_ends 20 = .ok (.ifCond .lt 43, 3) := by decide +kernel
theorem dX1_ends_23 : decode cX1_ends 23 = .ok (.iload_n 3, 1) := by decide +kernel
theorem dX1_ends_24 : decode cX1_ends 24 = .ok (.ifCond .lt 39, 3) := by decide +kernel
theorem dX1_ends_27 : decode cX1_ends 27 = .ok (.iload_n 3, 1) := by decide +kernel
theorem dX1_ends_28 : decode cX1_ends 28 = .ok (.bipush 24, 2) := by decide +kernel
theorem dX1_ends_30 : decode cX1_ends 30 = .ok (.if_icmp .ge 33, 3) := by decide +kernel
theorem dX1_ends_33 : decode cX1_ends 33 = .ok (.aload_n 0, 1) := by decide +kernel
theorem dX1_ends_34 : decode cX1_ends 34 = .ok (.getfield 19, 3) := by decide +kernel
theorem dX1_ends_37 : decode cX1_ends 37 = .ok (.bipush 24, 2) := by decide +kernel
theorem dX1_ends_39 : decode cX1_ends 39 = .ok (.iload 4, 2) := by decide +kernel
theorem dX1_ends_41 : decode cX1_ends 41 = .ok (.imul, 1) := by decide +kernel
theorem dX1_ends_42 : decode cX1_ends 42 = .ok (.iload_n 3, 1) := by decide +kernel
theorem dX1_ends_43 : decode cX1_ends 43 = .ok (.iadd, 1) := by decide +kernel
theorem dX1_ends_44 : decode cX1_ends 44 = .ok (.iaload, 1) := by decide +kernel
theorem dX1_ends_45 : decode cX1_ends 45 = .ok (.iload 5, 2) := by decide +kernel
theorem dX1_ends_47 : decode cX1_ends 47 = .ok (.ishr, 1) := by decide +kernel
theorem dX1_ends_48 : decode cX1_ends 48 = .ok (.iconst 1, 1) := by decide +kernel
theorem dX1_ends_49 : decode cX1_ends 49 = .ok (.iand, 1) := by decide +kernel
theorem dX1_ends_50 : decode cX1_ends 50 = .ok (.iconst 1, 1) := by decide +kernel
theorem dX1_ends_51 : decode cX1_ends 51 = .ok (.if_icmp .ne 6, 3) := by decide +kernel
theorem dX1_ends_54 : decode cX1_ends 54 = .ok (.iload 5, 2) := by decide +kernel
theorem dX1_ends_56 : decode cX1_ends 56 = .ok (.ireturn, 1) := by decide +kernel
theorem dX1_ends_57 : decode cX1_ends 57 = .ok (.iinc 5 1, 3) := by decide +kernel
theorem dX1_ends_60 : decode cX1_ends 60 = .ok (.goto (-49), 3) := by decide +kernel
theorem dX1_ends_63 : decode cX1_ends 63 = .ok (.iconst (-1), 1) := by decide +kernel
theorem dX1_ends_64 : decode cX1_ends 64 = .ok (.ireturn, 1) := by decide +kernel
theorem dX1_having_0 : decode cX1_having 0 = .ok (.iconst 0, 1) := by decide +kernel
theorem dX1_having_1 : decode cX1_having 1 = .ok (.istore_n 2, 1) := by decide +kernel
theorem dX1_having_2 : decode cX1_having 2 = .ok (.iconst 0, 1) := by decide +kernel
theorem dX1_having_3 : decode cX1_having 3 = .ok (.istore_n 3, 1) := by decide +kernel
theorem dX1_having_4 : decode cX1_having 4 = .ok (.iload_n 3, 1) := by decide +kernel
theorem dX1_having_5 : decode cX1_having 5 = .ok (.sipush 144, 3) := by decide +kernel
theorem dX1_having_8 : decode cX1_having 8 = .ok (.if_icmp .ge 52, 3) := by decide +kernel
theorem dX1_having_11 : decode cX1_having 11 = .ok (.iload_n 1, 1) := by decide +kernel
theorem dX1_having_12 : decode cX1_having 12 = .ok (.ifCond .lt 48, 3) := by decide +kernel
theorem dX1_having_15 : decode cX1_having 15 = .ok (.iload_n 3, 1) := by decide +kernel
theorem dX1_having_16 : decode cX1_having 16 = .ok (.bipush 24, 2) := by decide +kernel
theorem dX1_having_18 : decode cX1_having 18 = .ok (.irem, 1) := by decide +kernel
theorem dX1_having_19 : decode cX1_having 19 = .ok (.aload_n 0, 1) := by decide +kernel
theorem dX1_having_20 : decode cX1_having 20 = .ok (.getfield 7, 3) := by decide +kernel
theorem dX1_having_23 : decode cX1_having 23 = .ok (.iload_n 3, 1) := by decide +kernel
theorem dX1_having_24 : decode cX1_having 24 = .ok (.bipush 24, 2) := by decide +kernel
theorem dX1_having_26 : decode cX1_having 26 = .ok (.idiv, 1) := by decide +kernel
theorem dX1_having_27 : decode cX1_having 27 = .ok (.iaload, 1) := by decide +kernel
theorem dX1_having_28 : decode cX1_having 28 = .ok (.if_icmp .ge 24, 3) := by decide +kernel
theorem dX1_having_31 : decode cX1_having 31 = .ok (.aload_n 0, 1) := by decide +kernel
theorem dX1_having_32 : decode cX1_having 32 = .ok (.getfield 13, 3) := by decide +kernel
theorem dX1_having_35 : decode cX1_having 35 = .ok (.iload_n 3, 1) := by decide +kernel
theorem dX1_having_36 : decode cX1_having 36 = .ok (.iaload, 1) := by decide +kernel
theorem dX1_having_37 : decode cX1_having 37 = .ok (.iload_n 1, 1) := by decide +kernel
theorem dX1_having_38 : decode cX1_having 38 = .ok (.if_icmp .ne 14, 3) := by decide +kernel
theorem dX1_having_41 : decode cX1_having 41 = .ok (.iload_n 2, 1) := by decide +kernel
theorem dX1_having_42 : decode cX1_having 42 = .ok (.iconst 1, 1) := by decide +kernel
theorem dX1_having_43 : decode cX1_having 43 = .ok (.iload_n 3, 1) := by decide +kernel
theorem dX1_having_44 : decode cX1_having 44 = .ok (.bipush 24, 2) := by decide +kernel
theorem dX1_having_46 : decode cX1_having 46 = .ok (.idiv, 1) := by decide +kernel
theorem dX1_having_47 : decode cX1_having 47 = .ok (.ishl, 1) := by decide +kernel
theorem dX1_having_48 : decode cX1_having 48 = .ok (.ior, 1) := by decide +kernel
theorem dX1_having_49 : decode cX1_having 49 = .ok (.goto 4, 3) := by decide +kernel
theorem dX1_having_52 : decode cX1_having 52 = .ok (.iload_n 2, 1) := by decide +kernel
theorem dX1_having_53 : decode cX1_having 53 = .ok (.istore_n 2, 1) := by decide +kernel
theorem dX1_having_54 : decode cX1_having 54 = .ok (.iinc 3 1, 3) := by decide +kernel
theorem dX1_having_57 : decode cX1_having 57 = .ok (.goto (-53), 3) := by decide +kernel
theorem dX1_having_60 : decode cX1_having 60 = .ok (.iload_n 2, 1) := by decide +kernel
theorem dX1_having_61 : decode cX1_having 61 = .ok (.ireturn, 1) := by decide +kernel
theorem dX1_frequency_0 : decode cX1_frequency 0 = .ok (.iconst 0, 1) := by decide +kernel
theorem dX1_frequency_1 : decode cX1_frequency 1 = .ok (.istore_n 2, 1) := by decide +kernel
theorem dX1_frequency_2 : decode cX1_frequency 2 = .ok (.iconst 0, 1) := by decide +kernel
theorem dX1_frequency_3 : decode cX1_frequency 3 = .ok (.istore_n 3, 1) := by decide +kernel
theorem dX1_frequency_4 : decode cX1_frequency 4 = .ok (.iload_n 3, 1) := by decide +kernel
theorem dX1_frequency_5 : decode cX1_frequency 5 = .ok (.sipush 144, 3) := by decide +kernel
theorem dX1_frequency_8 : decode cX1_frequency 8 = .ok (.if_icmp .ge 47, 3) := by decide +kernel
theorem dX1_frequency_11 : decode cX1_frequency 11 = .ok (.iload_n 1, 1) := by decide +kernel
theorem dX1_frequency_12 : decode cX1_frequency 12 = .ok (.ifCond .lt 43, 3) := by decide +kernel
theorem dX1_frequency_15 : decode cX1_frequency 15 = .ok (.iload_n 3, 1) := by decide +kernel
theorem dX1_frequency_16 : decode cX1_frequency 16 = .ok (.bipush 24, 2) := by decide +kernel
theorem dX1_frequency_18 : decode cX1_frequency 18 = .ok (.irem, 1) := by decide +kernel
theorem dX1_frequency_19 : decode cX1_frequency 19 = .ok (.aload_n 0, 1) := by decide +kernel
theorem dX1_frequency_20 : decode cX1_frequency 20 = .ok (.getfield 7, 3) := by decide +kernel
theorem dX1_frequency_23 : decode cX1_frequency 23 = .ok (.iload_n 3, 1) := by decide +kernel
theorem dX1_frequency_24 : decode cX1_frequency 24 = .ok (.bipush 24, 2) := by decide +kernel
theorem dX1_frequency_26 : decode cX1_frequency 26 = .ok (.idiv, 1) := by decide +kernel
theorem dX1_frequency_27 : decode cX1_frequency 27 = .ok (.iaload, 1) := by decide +kernel
theorem dX1_frequency_28 : decode cX1_frequency 28 = .ok (.if_icmp .ge 19, 3) := by decide +kernel
theorem dX1_frequency_31 : decode cX1_frequency 31 = .ok (.aload_n 0, 1) := by decide +kernel
theorem dX1_frequency_32 : decode cX1_frequency 32 = .ok (.getfield 13, 3) := by decide +kernel
theorem dX1_frequency_35 : decode cX1_frequency 35 = .ok (.iload_n 3, 1) := by decide +kernel
theorem dX1_frequency_36 : decode cX1_frequency 36 = .ok (.iaload, 1) := by decide +kernel
theorem dX1_frequency_37 : decode cX1_frequency 37 = .ok (.iload_n 1, 1) := by decide +kernel
theorem dX1_frequency_38 : decode cX1_frequency 38 = .ok (.if_icmp .ne 9, 3) := by decide +kernel
theorem dX1_frequency_41 : decode cX1_frequency 41 = .ok (.iload_n 2, 1) := by decide +kernel
theorem dX1_frequency_42 : decode cX1_frequency 42 = .ok (.iconst 1, 1) := by decide +kernel
theorem dX1_frequency_43 : decode cX1_frequency 43 = .ok (.iadd, 1) := by decide +kernel
theorem dX1_frequency_44 : decode cX1_frequency 44 = .ok (.goto 4, 3) := by decide +kernel
theorem dX1_frequency_47 : decode cX1_frequency 47 = .ok (.iload_n 2, 1) := by decide +kernel
theorem dX1_frequency_48 : decode cX1_frequency 48 = .ok (.istore_n 2, 1) := by decide +kernel
theorem dX1_frequency_49 : decode cX1_frequency 49 = .ok (.iinc 3 1, 3) := by decide +kernel
theorem dX1_frequency_52 : decode cX1_frequency 52 = .ok (.goto (-48), 3) := by decide +kernel
theorem dX1_frequency_55 : decode cX1_frequency 55 = .ok (.iload_n 2, 1) := by decide +kernel
theorem dX1_frequency_56 : decode cX1_frequency 56 = .ok (.ireturn, 1) := by decide +kernel
theorem dX1_hasTokens_0 : decode cX1_hasTokens 0 = .ok (.iconst 0, 1) := by decide +kernel
theorem dX1_hasTokens_1 : decode cX1_hasTokens 1 = .ok (.istore_n 1, 1) := by decide +kernel
theorem dX1_hasTokens_2 : decode cX1_hasTokens 2 = .ok (.iconst 0, 1) := by decide +kernel
theorem dX1_hasTokens_3 : decode cX1_hasTokens 3 = .ok (.istore_n 2, 1) := by decide +kernel
theorem dX1_hasTokens_4 : decode cX1_hasTokens 4 = .ok (.iload_n 2, 1) := by decide +kernel
theorem dX1_hasTokens_5 : decode cX1_hasTokens 5 = .ok (.aload_n 0, 1) := by decide +kernel
theorem dX1_hasTokens_6 : decode cX1_hasTokens 6 = .ok (.getfield 32, 3) := by decide +kernel
theorem dX1_hasTokens_9 : decode cX1_hasTokens 9 = .ok (.if_icmp .ge 28, 3) := by decide +kernel
theorem dX1_hasTokens_12 : decode cX1_hasTokens 12 = .ok (.aload_n 0, 1) := by decide +kernel
theorem dX1_hasTokens_13 : decode cX1_hasTokens 13 = .ok (.getfield 16, 3) := by decide +kernel
theorem dX1_hasTokens_16 : decode cX1_hasTokens 16 = .ok (.iload_n 2, 1) := by decide +kernel
theorem dX1_hasTokens_17 : decode cX1_hasTokens 17 = .ok (.iaload, 1) := by decide +kernel
theorem dX1_hasTokens_18 : decode cX1_hasTokens 18 = .ok (.bipush 23, 2) := by decide +kernel
theorem dX1_hasTokens_20 : decode cX1_hasTokens 20 = .ok (.if_icmp .ne 9, 3) := by decide +kernel
theorem dX1_hasTokens_23 : decode cX1_hasTokens 23 = .ok (.iload_n 1, 1) := by decide +kernel
theorem dX1_hasTokens_24 : decode cX1_hasTokens 24 = .ok (.iconst 1, 1) := by decide +kernel
theorem dX1_hasTokens_25 : decode cX1_hasTokens 25 = .ok (.iadd, 1) := by decide +kernel
theorem dX1_hasTokens_26 : decode cX1_hasTokens 26 = .ok (.goto 4, 3) := by decide +kernel
theorem dX1_hasTokens_29 : decode cX1_hasTokens 29 = .ok (.iload_n 1, 1) := by decide +kernel
theorem dX1_hasTokens_30 : decode cX1_hasTokens 30 = .ok (.istore_n 1, 1) := by decide +kernel
theorem dX1_hasTokens_31 : decode cX1_hasTokens 31 = .ok (.iinc 2 1, 3) := by decide +kernel
theorem dX1_hasTokens_34 : decode cX1_hasTokens 34 = .ok (.goto (-30), 3) := by decide +kernel
theorem dX1_hasTokens_37 : decode cX1_hasTokens 37 = .ok (.iload_n 1, 1) := by decide +kernel
theorem dX1_hasTokens_38 : decode cX1_hasTokens 38 = .ok (.ireturn, 1) := by decide +kernel
end
section
/-! the base: numbers as nI, a state as a table of numbers, a world by that table, contracts and calls over it -/
set_option maxRecDepth 100000
/-- -1 for 0, else the number before -/
def pI (n : Nat) : Int32 := nI n - 1
theorem pI_0 : pI 0 = -1 := by decide +kernel
theorem pI_s (n : Nat) : pI (n + 1) = nI n := nI_pred n
theorem pI_m (n : Nat) : nI n + (-1) = pI n := by
  cases n with
  | zero => decide +kernel
  | succ k => rw [pk_m1, pI_s]
theorem pI_p (n : Nat) : pI n + 1 = nI n := by
  cases n with
  | zero => decide +kernel
  | succ k => rw [pI_s, nI_1]
theorem pI_toInt {n : Nat} (h : n < 2 ^ 31) : (pI n).toInt = (n : Int) - 1 := by
  cases n with
  | zero => decide +kernel
  | succ k => rw [pI_s, nI_toInt (by omega)]; omega
theorem pI_neg {n : Nat} (h : n < 2 ^ 31) : pI n < 0 ↔ n = 0 := by
  rw [Int32.lt_iff_toInt_lt, pI_toInt h, Int32.toInt_zero]; omega
theorem pI_lt {a b : Nat} (ha : a < 2 ^ 31) (hb : b < 2 ^ 31) : pI a < pI b ↔ a < b := by
  rw [Int32.lt_iff_toInt_lt, pI_toInt ha, pI_toInt hb]; omega
theorem pI_le {a b : Nat} (ha : a < 2 ^ 31) (hb : b < 2 ^ 31) : pI a ≤ pI b ↔ a ≤ b := by
  rw [Int32.le_iff_toInt_le, pI_toInt ha, pI_toInt hb]; omega
theorem nI_bv (n : Nat) : (nI n).toBitVec = BitVec.ofNat 32 n := rfl
theorem nI_or (a b : Nat) : nI a ||| nI b = nI (a ||| b) := by
  apply Int32.toBitVec_inj.mp
  rw [Int32.toBitVec_or, nI_bv, nI_bv, nI_bv, BitVec.ofNat_or]
theorem nI_and (a b : Nat) : nI a &&& nI b = nI (a &&& b) := by
  apply Int32.toBitVec_inj.mp
  rw [Int32.toBitVec_and, nI_bv, nI_bv, nI_bv, BitVec.ofNat_and]
theorem sh_l : ∀ n, n < 32 → ((nI n &&& 31).toBitVec.smod 32).toNat = n := by decide +kernel
theorem nI_shl (a : Nat) {b : Nat} (h : b < 32) : nI a <<< (nI b &&& 31) = nI (a <<< b) := by
  apply Int32.toBitVec_inj.mp
  apply BitVec.eq_of_toNat_eq
  rw [pk_shl _ _ b (sh_l b h), nI_bv, nI_bv, BitVec.toNat_ofNat, BitVec.toNat_ofNat, Nat.shiftLeft_eq]
  exact Nat.mod_mul_mod _ _ _
theorem nI_shr {a b : Nat} (ha : a < 2 ^ 31) (h : b < 32) : nI a >>> (nI b &&& 31) = nI (a >>> b) := by
  rw [pk_shrN ha _ b (sh_l b h), Nat.shiftRight_eq_div_pow]
theorem nI_byte : ∀ x, x < 128 → vp_nar .byte (nI x) = nI x := by decide +kernel
theorem nI_i2b : ∀ x, x < 128 → (nI x).toInt8.toInt32 = nI x := by decide +kernel
theorem nI_bool : ∀ x, x < 2 → vp_nar .boolean (nI x) = nI x := by decide +kernel
theorem nI_zn : ∀ x, x < 2 → narrow .boolean (.int (nI x)) = .int (nI x) := by decide +kernel
theorem nI_upd {f : Nat → Nat} {i x : Nat} (h : i < 2 ^ 31) : upd (fun j => nI (f j)) (nI i).toNatClampNeg (nI x) = fun j => nI (va_up f i x j) := by
  funext j
  rw [nI_clamp h]
  by_cases e : j = i
  · simp [upd, va_up, e]
  · simp [upd, va_up, e]
/-- a state: rows of numbers -/
abbrev gU : Type := Nat → Nat → Nat
def gup (u : gU) (k i x : Nat) : gU := fun a => if a = k then va_up (u k) i x else u a
theorem gup_s (u : gU) (k i x : Nat) : gup u k i x k = va_up (u k) i x := by simp [gup]
theorem gup_n (u : gU) {k a : Nat} (i x : Nat) (h : a ≠ k) : gup u k i x a = u a := by simp [gup, h]
section GW
variable {p : Program} {l : Launch} {e : Env} {R : Room} {s : State} {m : MethodId} {args : Array Value} {below : List Frame} {meth : Method} {c : Code} {H : Heap} {locs : List Loc} {cells slots : Nat} {Q : State → Prop}
variable {cc : ByteArray} {pc nL : Nat} {ls : Array Slot} {rest : List Value} {D : va_G} {A : Nat → Prop} {a : Nat} {T : List (ClassId × FieldType)} {L : gU → va_W} {u : gU} {own : String}
/-- the world at hand: its cells hold the state u; since the start nothing outside A has changed -/
def gW (D : va_G) (L : gU → va_W) (T : List (ClassId × FieldType)) (A : Nat → Prop) (s : State) (H : Heap) (locs : List Loc) (u : gU) : Prop :=
  va_K D vwCl T s ∧ va_P D vwCl (L u) H ∧ va_D A (L u) ∧ va_S A s.heap H locs ∧ ∀ q, s.heap.size ≤ q → A q
theorem g_ild (S : CallFix p m c cc nL s args lw_all own) (hw : gW D L T A s H locs u) (q0 t0 : Nat) {cA : ClassId} {n : Nat} {f : Nat → Nat} (ha : (L u)[q0]? = some (a, .inl (cA, n, .inl (fun i => nI (f i))))) (ht : T[t0]? = some (cA, .int)) (hn : n < 2 ^ 31) {i : Nat} (hi : i < n) (hdg : decode cc pc = .ok (.iaload, 1))
    (kk : W p l e R s m args below meth c H locs cells slots Q (F0 m (pc + 1) ls (.int (nI (f i)) :: rest))) : W p l e R s m args below meth c H locs cells slots Q (F0 m pc ls (.int (nI i) :: .ref a :: rest)) := by
  refine va_iald S.1 S.2.1 hw.1 hw.2.1 q0 t0 ha ht (vp_in_nI hi hn) hdg ?_
  rw [nI_clamp (by omega)]
  exact kk
theorem g_bld (S : CallFix p m c cc nL s args lw_all own) (hw : gW D L T A s H locs u) (q0 t0 : Nat) {cA : ClassId} {n : Nat} {f : Nat → Nat} (ha : (L u)[q0]? = some (a, .inl (cA, n, .inl (fun i => nI (f i))))) (ht : T[t0]? = some (cA, .byte)) (hn : n < 2 ^ 31) {i : Nat} (hi : i < n) (hdg : decode cc pc = .ok (.baload, 1))
    (kk : W p l e R s m args below meth c H locs cells slots Q (F0 m (pc + 1) ls (.int (nI (f i)) :: rest))) : W p l e R s m args below meth c H locs cells slots Q (F0 m pc ls (.int (nI i) :: .ref a :: rest)) := by
  refine va_bald S.1 S.2.1 hw.1 hw.2.1 q0 t0 ha ht (vp_in_nI hi hn) hdg ?_
  rw [nI_clamp (by omega)]
  exact kk
theorem g_zld (S : CallFix p m c cc nL s args lw_all own) (hw : gW D L T A s H locs u) (q0 t0 : Nat) {cA : ClassId} {n : Nat} {f : Nat → Nat} (ha : (L u)[q0]? = some (a, .inl (cA, n, .inl (fun i => nI (f i))))) (ht : T[t0]? = some (cA, .boolean)) (hn : n < 2 ^ 31) {i : Nat} (hi : i < n) (hdg : decode cc pc = .ok (.baload, 1))
    (kk : W p l e R s m args below meth c H locs cells slots Q (F0 m (pc + 1) ls (.int (nI (f i)) :: rest))) : W p l e R s m args below meth c H locs cells slots Q (F0 m pc ls (.int (nI i) :: .ref a :: rest)) := by
  refine va_zald S.1 S.2.1 hw.1 hw.2.1 q0 t0 ha ht (vp_in_nI hi hn) hdg ?_
  rw [nI_clamp (by omega)]
  exact kk
theorem g_ist (S : CallFix p m c cc nL s args lw_all own) (hw : gW D L T A s H locs u) (q0 t0 k : Nat) {cA : ClassId} {n : Nat} {i x : Nat} (ha : (L u)[q0]? = some (a, .inl (cA, n, .inl (fun j => nI (u k j))))) (ht : T[t0]? = some (cA, .int)) (hn : n < 2 ^ 31) (hset : (L u).set q0 (a, .inl (cA, n, .inl (fun j => nI (va_up (u k) i x j)))) = L (gup u k i x)) (hi : i < n) (hdg : decode cc pc = .ok (.iastore, 1))
    (kk : ∀ (H1 : Heap) (locs1 : List Loc), gW D L T A s H1 locs1 (gup u k i x) → W p l e R s m args below meth c H1 locs1 cells slots Q (F0 m (pc + 1) ls rest)) : W p l e R s m args below meth c H locs cells slots Q (F0 m pc ls (.int (nI x) :: .int (nI i) :: .ref a :: rest)) := by
  refine va_iast S.1 S.2.1 hw.1 hw.2.1 hw.2.2.1 hw.2.2.2.1 q0 t0 ha ht (vp_in_nI hi hn) hdg (fun H1 locs1 hP hD hS => kk H1 locs1 ?_)
  rw [nI_upd (by omega), hset] at hP hD
  exact ⟨hw.1, hP, hD, hS, hw.2.2.2.2⟩
theorem g_bst (S : CallFix p m c cc nL s args lw_all own) (hw : gW D L T A s H locs u) (q0 t0 k : Nat) {cA : ClassId} {n : Nat} {i x : Nat} (ha : (L u)[q0]? = some (a, .inl (cA, n, .inl (fun j => nI (u k j))))) (ht : T[t0]? = some (cA, .byte)) (hn : n < 2 ^ 31) (hset : (L u).set q0 (a, .inl (cA, n, .inl (fun j => nI (va_up (u k) i x j)))) = L (gup u k i x)) (hi : i < n) (hxx : x < 128) (hdg : decode cc pc = .ok (.bastore, 1))
    (kk : ∀ (H1 : Heap) (locs1 : List Loc), gW D L T A s H1 locs1 (gup u k i x) → W p l e R s m args below meth c H1 locs1 cells slots Q (F0 m (pc + 1) ls rest)) : W p l e R s m args below meth c H locs cells slots Q (F0 m pc ls (.int (nI x) :: .int (nI i) :: .ref a :: rest)) := by
  refine va_bast S.1 S.2.1 hw.1 hw.2.1 hw.2.2.1 hw.2.2.2.1 q0 t0 ha ht (vp_in_nI hi hn) hdg (fun H1 locs1 hP hD hS => kk H1 locs1 ?_)
  rw [nI_byte x hxx, nI_upd (by omega), hset] at hP hD
  exact ⟨hw.1, hP, hD, hS, hw.2.2.2.2⟩
theorem g_zst (S : CallFix p m c cc nL s args lw_all own) (hw : gW D L T A s H locs u) (q0 t0 k : Nat) {cA : ClassId} {n : Nat} {i x : Nat} (ha : (L u)[q0]? = some (a, .inl (cA, n, .inl (fun j => nI (u k j))))) (ht : T[t0]? = some (cA, .boolean)) (hn : n < 2 ^ 31) (hset : (L u).set q0 (a, .inl (cA, n, .inl (fun j => nI (va_up (u k) i x j)))) = L (gup u k i x)) (hi : i < n) (hxx : x < 2) (hdg : decode cc pc = .ok (.bastore, 1))
    (kk : ∀ (H1 : Heap) (locs1 : List Loc), gW D L T A s H1 locs1 (gup u k i x) → W p l e R s m args below meth c H1 locs1 cells slots Q (F0 m (pc + 1) ls rest)) : W p l e R s m args below meth c H locs cells slots Q (F0 m pc ls (.int (nI x) :: .int (nI i) :: .ref a :: rest)) := by
  refine va_zast S.1 S.2.1 hw.1 hw.2.1 hw.2.2.1 hw.2.2.2.1 q0 t0 ha ht (vp_in_nI hi hn) hdg (fun H1 locs1 hP hD hS => kk H1 locs1 ?_)
  rw [nI_bool x hxx, nI_upd (by omega), hset] at hP hD
  exact ⟨hw.1, hP, hD, hS, hw.2.2.2.2⟩
theorem g_get (S : CallFix p m c cc nL s args lw_all own) (hw : gW D L T A s H locs u) {ref C : String} {Tb : u_T} {N ci index : Nat} (hin : ∀ w ∈ u_ws C Tb N, w ∈ lw_all) {fs : List Value} (he : (L u)[0]? = some (a, .inr (ci, fs))) (hc : vwCl[ci]? = some (C, Tb, N)) (k : Nat) (hk : k < N) (hlink : (Cond.fieldLink own index ref (Tb k).2.1 (Tb k).2.2.1) ∈ lw_all) (hsame : ref = (Tb k).1) {v : Value} (hv : fs[k]? = some v) (hdg : decode cc pc = .ok (.getfield index, 3))
    (kk : W p l e R s m args below meth c H locs cells slots Q (F0 m (pc + 3) ls (v :: rest))) : W p l e R s m args below meth c H locs cells slots Q (F0 m pc ls (.ref a :: rest)) := by
  subst hsame
  exact va_get S.1 S.2.1 S.2.2.2.2 hin S.2.2.2.1 hw.1 hw.2.1 0 he hc k hk (S.2.2.2.2 _ hlink) (fun _ h => h) hv hdg kk
theorem g_put (S : CallFix p m c cc nL s args lw_all own) (hw : gW D L T A s H locs u) {ref C : String} {Tb : u_T} {N ci index : Nat} (hin : ∀ w ∈ u_ws C Tb N, w ∈ lw_all) (ty0 : Nat → FieldType) (hty : ∀ k, k < N → parseFieldDescriptor (Tb k).2.2.1 = some (ty0 k)) (hnm : ∀ a, a < N → ∀ b, b < N → a ≠ b → (Tb a).2.1 ≠ (Tb b).2.1) {fs : List Value} (he : (L u)[0]? = some (a, .inr (ci, fs))) (hc : vwCl[ci]? = some (C, Tb, N)) (k : Nat) {x : Nat} (hk : k < N) (hlink : (Cond.fieldLink own index ref (Tb k).2.1 (Tb k).2.2.1) ∈ lw_all) (hsame : ref = (Tb k).1) (hfin : (Tb k).2.2.2 = false) (hd : parseFieldDescriptor (Tb k).2.2.1 = some .int) (hlen : k < fs.length) (hset : (L u).set 0 (a, .inr (ci, fs.set k (.int (nI x)))) = L (gup u k 0 x)) (hdg : decode cc pc = .ok (.putfield index, 3))
    (kk : ∀ (H1 : Heap) (locs1 : List Loc), gW D L T A s H1 locs1 (gup u k 0 x) → W p l e R s m args below meth c H1 locs1 cells slots Q (F0 m (pc + 3) ls rest)) : W p l e R s m args below meth c H locs cells slots Q (F0 m pc ls (.int (nI x) :: .ref a :: rest)) := by
  subst hsame
  refine va_put S.1 S.2.1 S.2.2.2.2 hin ty0 hty hnm S.2.2.2.1 hw.1 hw.2.1 hw.2.2.1 hw.2.2.2.1 0 he hc k hk (S.2.2.2.2 _ hlink) (fun _ h => h) hfin hd rfl rfl hlen hdg (fun H1 locs1 hP hD hS => kk H1 locs1 ?_)
  rw [hset] at hP hD
  exact ⟨hw.1, hP, hD, hS, hw.2.2.2.2⟩
theorem n_iadd (S : CallFix p m c cc nL s args lw_all own) {x y : Nat} (hdg : decode cc pc = .ok (.iadd, 1)) (kk : W p l e R s m args below meth c H locs cells slots Q (F0 m (pc + 1) ls (.int (nI (x + y)) :: rest))) : W p l e R s m args below meth c H locs cells slots Q (F0 m pc ls (.int (nI y) :: .int (nI x) :: rest)) := by
  refine lv_iadd S.1 S.2.1 hdg ?_
  rw [nI_add]; exact kk
theorem n_isub (S : CallFix p m c cc nL s args lw_all own) {x y : Nat} (h : y ≤ x) (hdg : decode cc pc = .ok (.isub, 1)) (kk : W p l e R s m args below meth c H locs cells slots Q (F0 m (pc + 1) ls (.int (nI (x - y)) :: rest))) : W p l e R s m args below meth c H locs cells slots Q (F0 m pc ls (.int (nI y) :: .int (nI x) :: rest)) := by
  refine lv_isub S.1 S.2.1 hdg ?_
  rw [pk_sub h]; exact kk
theorem n_dec (S : CallFix p m c cc nL s args lw_all own) {x : Nat} (hdg : decode cc pc = .ok (.isub, 1)) (kk : W p l e R s m args below meth c H locs cells slots Q (F0 m (pc + 1) ls (.int (pI x) :: rest))) : W p l e R s m args below meth c H locs cells slots Q (F0 m pc ls (.int (nI 1) :: .int (nI x) :: rest)) :=
  lv_isub S.1 S.2.1 hdg kk
theorem p_inc (S : CallFix p m c cc nL s args lw_all own) {x : Nat} (hdg : decode cc pc = .ok (.iadd, 1)) (kk : W p l e R s m args below meth c H locs cells slots Q (F0 m (pc + 1) ls (.int (nI x) :: rest))) : W p l e R s m args below meth c H locs cells slots Q (F0 m pc ls (.int (nI 1) :: .int (pI x) :: rest)) := by
  refine lv_iadd S.1 S.2.1 hdg ?_
  rw [show nI 1 = 1 from rfl, pI_p]; exact kk
theorem n_imul (S : CallFix p m c cc nL s args lw_all own) {x y : Nat} (hdg : decode cc pc = .ok (.imul, 1)) (kk : W p l e R s m args below meth c H locs cells slots Q (F0 m (pc + 1) ls (.int (nI (x * y)) :: rest))) : W p l e R s m args below meth c H locs cells slots Q (F0 m pc ls (.int (nI y) :: .int (nI x) :: rest)) := by
  refine lv_imul S.1 S.2.1 hdg ?_
  rw [pk_mul]; exact kk
theorem n_ior (S : CallFix p m c cc nL s args lw_all own) {x y : Nat} (hdg : decode cc pc = .ok (.ior, 1)) (kk : W p l e R s m args below meth c H locs cells slots Q (F0 m (pc + 1) ls (.int (nI (x ||| y)) :: rest))) : W p l e R s m args below meth c H locs cells slots Q (F0 m pc ls (.int (nI y) :: .int (nI x) :: rest)) := by
  refine lv_ior S.1 S.2.1 hdg ?_
  rw [nI_or]; exact kk
theorem n_iand (S : CallFix p m c cc nL s args lw_all own) {x y : Nat} (hdg : decode cc pc = .ok (.iand, 1)) (kk : W p l e R s m args below meth c H locs cells slots Q (F0 m (pc + 1) ls (.int (nI (x &&& y)) :: rest))) : W p l e R s m args below meth c H locs cells slots Q (F0 m pc ls (.int (nI y) :: .int (nI x) :: rest)) := by
  refine lv_iand S.1 S.2.1 hdg ?_
  rw [nI_and]; exact kk
theorem n_ishl (S : CallFix p m c cc nL s args lw_all own) {x y : Nat} (h : y < 32) (hdg : decode cc pc = .ok (.ishl, 1)) (kk : W p l e R s m args below meth c H locs cells slots Q (F0 m (pc + 1) ls (.int (nI (x <<< y)) :: rest))) : W p l e R s m args below meth c H locs cells slots Q (F0 m pc ls (.int (nI y) :: .int (nI x) :: rest)) := by
  refine lv_ishl S.1 S.2.1 hdg ?_
  rw [nI_shl x h]; exact kk
theorem n_ishr (S : CallFix p m c cc nL s args lw_all own) {x y : Nat} (hx : x < 2 ^ 31) (h : y < 32) (hdg : decode cc pc = .ok (.ishr, 1)) (kk : W p l e R s m args below meth c H locs cells slots Q (F0 m (pc + 1) ls (.int (nI (x >>> y)) :: rest))) : W p l e R s m args below meth c H locs cells slots Q (F0 m pc ls (.int (nI y) :: .int (nI x) :: rest)) := by
  refine lv_ishr S.1 S.2.1 hdg ?_
  rw [nI_shr hx h]; exact kk
theorem n_idiv (S : CallFix p m c cc nL s args lw_all own) {x y : Nat} (hx : x < 2 ^ 31) (h0 : 0 < y) (hy : y < 2 ^ 31) (hdg : decode cc pc = .ok (.idiv, 1)) (kk : W p l e R s m args below meth c H locs cells slots Q (F0 m (pc + 1) ls (.int (nI (x / y)) :: rest))) : W p l e R s m args below meth c H locs cells slots Q (F0 m pc ls (.int (nI y) :: .int (nI x) :: rest)) := by
  refine lv_idiv S.1 S.2.1 hdg (nI_ne0 h0 hy) ?_
  rw [pk_div hx h0 hy]; exact kk
theorem n_irem (S : CallFix p m c cc nL s args lw_all own) {x y : Nat} (hx : x < 2 ^ 31) (h0 : 0 < y) (hy : y < 2 ^ 31) (hdg : decode cc pc = .ok (.irem, 1)) (kk : W p l e R s m args below meth c H locs cells slots Q (F0 m (pc + 1) ls (.int (nI (x % y)) :: rest))) : W p l e R s m args below meth c H locs cells slots Q (F0 m pc ls (.int (nI y) :: .int (nI x) :: rest)) := by
  refine lv_irem S.1 S.2.1 hdg (nI_ne0 h0 hy) ?_
  rw [pk_rem hx h0 hy]; exact kk
theorem n_i2b (S : CallFix p m c cc nL s args lw_all own) {x : Nat} (h : x < 128) (hdg : decode cc pc = .ok (.i2b, 1)) (kk : W p l e R s m args below meth c H locs cells slots Q (F0 m (pc + 1) ls (.int (nI x) :: rest))) : W p l e R s m args below meth c H locs cells slots Q (F0 m pc ls (.int (nI x) :: rest)) :=
  lv_i2b S.1 S.2.1 hdg (nI_i2b x h) kk
theorem n_icmp_eq (S : CallFix p m c cc nL s args lw_all own) {x y : Nat} {off : Int} {tgt : Nat} (hx : x < 2 ^ 31) (hy : y < 2 ^ 31) (hdg : decode cc pc = .ok (.if_icmp .eq off, 3)) (ht : (pc : Int) + off = (tgt : Int)) (kt : x = y → W p l e R s m args below meth c H locs cells slots Q (F0 m tgt ls rest)) (kf : x ≠ y → W p l e R s m args below meth c H locs cells slots Q (F0 m (pc + 3) ls rest)) : W p l e R s m args below meth c H locs cells slots Q (F0 m pc ls (.int (nI y) :: .int (nI x) :: rest)) := by
  exact lv_icmp_eq S.1 S.2.1 hdg ht (fun q => kt ((nI_eq hx hy).mp q)) (fun q => kf (fun z => q ((nI_eq hx hy).mpr z)))
theorem n_icmp_ne (S : CallFix p m c cc nL s args lw_all own) {x y : Nat} {off : Int} {tgt : Nat} (hx : x < 2 ^ 31) (hy : y < 2 ^ 31) (hdg : decode cc pc = .ok (.if_icmp .ne off, 3)) (ht : (pc : Int) + off = (tgt : Int)) (kt : x ≠ y → W p l e R s m args below meth c H locs cells slots Q (F0 m tgt ls rest)) (kf : x = y → W p l e R s m args below meth c H locs cells slots Q (F0 m (pc + 3) ls rest)) : W p l e R s m args below meth c H locs cells slots Q (F0 m pc ls (.int (nI y) :: .int (nI x) :: rest)) := by
  refine lv_icmp_ne S.1 S.2.1 hdg ht (fun q => kt ?_) (fun q => kf ?_)
  · intro z; exact q ((nI_eq hx hy).mpr z)
  · exact (nI_eq hx hy).mp q
theorem n_icmp_lt (S : CallFix p m c cc nL s args lw_all own) {x y : Nat} {off : Int} {tgt : Nat} (hx : x < 2 ^ 31) (hy : y < 2 ^ 31) (hdg : decode cc pc = .ok (.if_icmp .lt off, 3)) (ht : (pc : Int) + off = (tgt : Int)) (kt : x < y → W p l e R s m args below meth c H locs cells slots Q (F0 m tgt ls rest)) (kf : y ≤ x → W p l e R s m args below meth c H locs cells slots Q (F0 m (pc + 3) ls rest)) : W p l e R s m args below meth c H locs cells slots Q (F0 m pc ls (.int (nI y) :: .int (nI x) :: rest)) := by
  exact lv_icmp_lt S.1 S.2.1 hdg ht (fun q => kt ((nI_ltI hx hy).mp q)) (fun q => kf (Nat.not_lt.mp (fun z => q ((nI_ltI hx hy).mpr z))))
theorem n_icmp_ge (S : CallFix p m c cc nL s args lw_all own) {x y : Nat} {off : Int} {tgt : Nat} (hx : x < 2 ^ 31) (hy : y < 2 ^ 31) (hdg : decode cc pc = .ok (.if_icmp .ge off, 3)) (ht : (pc : Int) + off = (tgt : Int)) (kt : y ≤ x → W p l e R s m args below meth c H locs cells slots Q (F0 m tgt ls rest)) (kf : x < y → W p l e R s m args below meth c H locs cells slots Q (F0 m (pc + 3) ls rest)) : W p l e R s m args below meth c H locs cells slots Q (F0 m pc ls (.int (nI y) :: .int (nI x) :: rest)) := by
  exact lv_icmp_ge S.1 S.2.1 hdg ht (fun q => kt ((nI_leI hy hx).mp q)) (fun q => kf (Nat.not_le.mp (fun z => q ((nI_leI hy hx).mpr z))))
theorem n_icmp_gt (S : CallFix p m c cc nL s args lw_all own) {x y : Nat} {off : Int} {tgt : Nat} (hx : x < 2 ^ 31) (hy : y < 2 ^ 31) (hdg : decode cc pc = .ok (.if_icmp .gt off, 3)) (ht : (pc : Int) + off = (tgt : Int)) (kt : y < x → W p l e R s m args below meth c H locs cells slots Q (F0 m tgt ls rest)) (kf : x ≤ y → W p l e R s m args below meth c H locs cells slots Q (F0 m (pc + 3) ls rest)) : W p l e R s m args below meth c H locs cells slots Q (F0 m pc ls (.int (nI y) :: .int (nI x) :: rest)) := by
  exact lv_icmp_gt S.1 S.2.1 hdg ht (fun q => kt ((nI_ltI hy hx).mp q)) (fun q => kf (Nat.not_lt.mp (fun z => q ((nI_ltI hy hx).mpr z))))
theorem n_icmp_le (S : CallFix p m c cc nL s args lw_all own) {x y : Nat} {off : Int} {tgt : Nat} (hx : x < 2 ^ 31) (hy : y < 2 ^ 31) (hdg : decode cc pc = .ok (.if_icmp .le off, 3)) (ht : (pc : Int) + off = (tgt : Int)) (kt : x ≤ y → W p l e R s m args below meth c H locs cells slots Q (F0 m tgt ls rest)) (kf : y < x → W p l e R s m args below meth c H locs cells slots Q (F0 m (pc + 3) ls rest)) : W p l e R s m args below meth c H locs cells slots Q (F0 m pc ls (.int (nI y) :: .int (nI x) :: rest)) := by
  exact lv_icmp_le S.1 S.2.1 hdg ht (fun q => kt ((nI_leI hx hy).mp q)) (fun q => kf (Nat.not_le.mp (fun z => q ((nI_leI hx hy).mpr z))))
theorem n_if_eq (S : CallFix p m c cc nL s args lw_all own) {x : Nat} {off : Int} {tgt : Nat} (hx : x < 2 ^ 31) (hdg : decode cc pc = .ok (.ifCond .eq off, 3)) (ht : (pc : Int) + off = (tgt : Int)) (kt : x = 0 → W p l e R s m args below meth c H locs cells slots Q (F0 m tgt ls rest)) (kf : x ≠ 0 → W p l e R s m args below meth c H locs cells slots Q (F0 m (pc + 3) ls rest)) : W p l e R s m args below meth c H locs cells slots Q (F0 m pc ls (.int (nI x) :: rest)) := by
  have e0 : nI x = 0 ↔ x = 0 := by rw [← nI_0]; exact nI_eq hx (by decide)
  have p0 : (0 : Int32) < nI x ↔ 0 < x := by rw [← nI_0]; exact nI_ltI (by decide) hx
  have l0 : nI x ≤ (0 : Int32) ↔ x ≤ 0 := by rw [← nI_0]; exact nI_leI hx (by decide)
  exact lv_if_eq S.1 S.2.1 hdg ht (fun q => kt (e0.mp q)) (fun q => kf (fun z => q (e0.mpr z)))
theorem n_if_ne (S : CallFix p m c cc nL s args lw_all own) {x : Nat} {off : Int} {tgt : Nat} (hx : x < 2 ^ 31) (hdg : decode cc pc = .ok (.ifCond .ne off, 3)) (ht : (pc : Int) + off = (tgt : Int)) (kt : x ≠ 0 → W p l e R s m args below meth c H locs cells slots Q (F0 m tgt ls rest)) (kf : x = 0 → W p l e R s m args below meth c H locs cells slots Q (F0 m (pc + 3) ls rest)) : W p l e R s m args below meth c H locs cells slots Q (F0 m pc ls (.int (nI x) :: rest)) := by
  have e0 : nI x = 0 ↔ x = 0 := by rw [← nI_0]; exact nI_eq hx (by decide)
  have p0 : (0 : Int32) < nI x ↔ 0 < x := by rw [← nI_0]; exact nI_ltI (by decide) hx
  have l0 : nI x ≤ (0 : Int32) ↔ x ≤ 0 := by rw [← nI_0]; exact nI_leI hx (by decide)
  exact lv_if_ne S.1 S.2.1 hdg ht (fun q => kt (fun z => q (e0.mpr z))) (fun q => kf (e0.mp q))
theorem n_if_gt (S : CallFix p m c cc nL s args lw_all own) {x : Nat} {off : Int} {tgt : Nat} (hx : x < 2 ^ 31) (hdg : decode cc pc = .ok (.ifCond .gt off, 3)) (ht : (pc : Int) + off = (tgt : Int)) (kt : 0 < x → W p l e R s m args below meth c H locs cells slots Q (F0 m tgt ls rest)) (kf : x = 0 → W p l e R s m args below meth c H locs cells slots Q (F0 m (pc + 3) ls rest)) : W p l e R s m args below meth c H locs cells slots Q (F0 m pc ls (.int (nI x) :: rest)) := by
  have e0 : nI x = 0 ↔ x = 0 := by rw [← nI_0]; exact nI_eq hx (by decide)
  have p0 : (0 : Int32) < nI x ↔ 0 < x := by rw [← nI_0]; exact nI_ltI (by decide) hx
  have l0 : nI x ≤ (0 : Int32) ↔ x ≤ 0 := by rw [← nI_0]; exact nI_leI hx (by decide)
  exact lv_if_gt S.1 S.2.1 hdg ht (fun q => kt (p0.mp q)) (fun q => kf (Nat.eq_zero_of_not_pos (fun z => q (p0.mpr z))))
theorem n_if_le (S : CallFix p m c cc nL s args lw_all own) {x : Nat} {off : Int} {tgt : Nat} (hx : x < 2 ^ 31) (hdg : decode cc pc = .ok (.ifCond .le off, 3)) (ht : (pc : Int) + off = (tgt : Int)) (kt : x = 0 → W p l e R s m args below meth c H locs cells slots Q (F0 m tgt ls rest)) (kf : 0 < x → W p l e R s m args below meth c H locs cells slots Q (F0 m (pc + 3) ls rest)) : W p l e R s m args below meth c H locs cells slots Q (F0 m pc ls (.int (nI x) :: rest)) := by
  have e0 : nI x = 0 ↔ x = 0 := by rw [← nI_0]; exact nI_eq hx (by decide)
  have p0 : (0 : Int32) < nI x ↔ 0 < x := by rw [← nI_0]; exact nI_ltI (by decide) hx
  have l0 : nI x ≤ (0 : Int32) ↔ x ≤ 0 := by rw [← nI_0]; exact nI_leI hx (by decide)
  exact lv_if_le S.1 S.2.1 hdg ht (fun q => kt (Nat.le_zero.mp (l0.mp q))) (fun q => kf (Nat.pos_of_ne_zero (fun z => q (l0.mpr (Nat.le_of_eq z)))))
theorem n_if_lt (S : CallFix p m c cc nL s args lw_all own) {x : Nat} {off : Int} {tgt : Nat} (hx : x < 2 ^ 31) (hdg : decode cc pc = .ok (.ifCond .lt off, 3)) (ht : (pc : Int) + off = (tgt : Int)) (kk : W p l e R s m args below meth c H locs cells slots Q (F0 m (pc + 3) ls rest)) : W p l e R s m args below meth c H locs cells slots Q (F0 m pc ls (.int (nI x) :: rest)) :=
  lv_if_lt S.1 S.2.1 hdg ht (fun q => absurd q (nI_pos hx)) (fun _ => kk)
theorem n_if_ge (S : CallFix p m c cc nL s args lw_all own) {x : Nat} {off : Int} {tgt : Nat} (hx : x < 2 ^ 31) (hdg : decode cc pc = .ok (.ifCond .ge off, 3)) (ht : (pc : Int) + off = (tgt : Int)) (kk : W p l e R s m args below meth c H locs cells slots Q (F0 m tgt ls rest)) : W p l e R s m args below meth c H locs cells slots Q (F0 m pc ls (.int (nI x) :: rest)) :=
  lv_if_ge S.1 S.2.1 hdg ht (fun _ => kk) (fun q => absurd (nI_pos' hx) q)
theorem p_if_lt (S : CallFix p m c cc nL s args lw_all own) {x : Nat} {off : Int} {tgt : Nat} (hx : x < 2 ^ 31) (hdg : decode cc pc = .ok (.ifCond .lt off, 3)) (ht : (pc : Int) + off = (tgt : Int)) (kt : x = 0 → W p l e R s m args below meth c H locs cells slots Q (F0 m tgt ls rest)) (kf : 0 < x → W p l e R s m args below meth c H locs cells slots Q (F0 m (pc + 3) ls rest)) : W p l e R s m args below meth c H locs cells slots Q (F0 m pc ls (.int (pI x) :: rest)) :=
  lv_if_lt S.1 S.2.1 hdg ht (fun q => kt ((pI_neg hx).mp q)) (fun q => kf (Nat.pos_of_ne_zero (fun z => q ((pI_neg hx).mpr z))))
theorem p_if_ge (S : CallFix p m c cc nL s args lw_all own) {x : Nat} {off : Int} {tgt : Nat} (hx : x < 2 ^ 31) (hdg : decode cc pc = .ok (.ifCond .ge off, 3)) (ht : (pc : Int) + off = (tgt : Int)) (kt : 0 < x → W p l e R s m args below meth c H locs cells slots Q (F0 m tgt ls rest)) (kf : x = 0 → W p l e R s m args below meth c H locs cells slots Q (F0 m (pc + 3) ls rest)) : W p l e R s m args below meth c H locs cells slots Q (F0 m pc ls (.int (pI x) :: rest)) :=
  lv_if_ge S.1 S.2.1 hdg ht (fun q => kt (Nat.pos_of_ne_zero (fun z => absurd ((pI_neg hx).mpr z) (Int32.not_lt.mpr q)))) (fun q => kf ((pI_neg hx).mp (Int32.not_le.mp q)))
theorem p_icmp_gt (S : CallFix p m c cc nL s args lw_all own) {x y : Nat} {off : Int} {tgt : Nat} (hx : x < 2 ^ 31) (hy : y < 2 ^ 31) (hdg : decode cc pc = .ok (.if_icmp .gt off, 3)) (ht : (pc : Int) + off = (tgt : Int)) (kt : y < x → W p l e R s m args below meth c H locs cells slots Q (F0 m tgt ls rest)) (kf : x ≤ y → W p l e R s m args below meth c H locs cells slots Q (F0 m (pc + 3) ls rest)) : W p l e R s m args below meth c H locs cells slots Q (F0 m pc ls (.int (pI y) :: .int (pI x) :: rest)) :=
  lv_icmp_gt S.1 S.2.1 hdg ht (fun q => kt ((pI_lt hy hx).mp q)) (fun q => kf (Nat.not_lt.mp (fun z => q ((pI_lt hy hx).mpr z))))
theorem p_icmp_le (S : CallFix p m c cc nL s args lw_all own) {x y : Nat} {off : Int} {tgt : Nat} (hx : x < 2 ^ 31) (hy : y < 2 ^ 31) (hdg : decode cc pc = .ok (.if_icmp .le off, 3)) (ht : (pc : Int) + off = (tgt : Int)) (kt : x ≤ y → W p l e R s m args below meth c H locs cells slots Q (F0 m tgt ls rest)) (kf : y < x → W p l e R s m args below meth c H locs cells slots Q (F0 m (pc + 3) ls rest)) : W p l e R s m args below meth c H locs cells slots Q (F0 m pc ls (.int (pI y) :: .int (pI x) :: rest)) :=
  lv_icmp_le S.1 S.2.1 hdg ht (fun q => kt ((pI_le hx hy).mp q)) (fun q => kf (Nat.not_le.mp (fun z => q ((pI_le hx hy).mpr z))))
theorem n_iinc (S : CallFix p m c cc nL s args lw_all own) {i k x : Nat} {lv lv' : List (Nat × Value)} (hdg : decode cc pc = .ok (.iinc i 1, 3)) (h : lv_has ls nL lv) (hk : lv[k]? = some (i, .int (nI x))) (hn : i < nL) (hl : (i, Value.int (nI (x + 1))) :: lv.filter (fun q => !(q.1 == i) && !(q.1 + 1 == i && q.2.category == 2)) = lv') (kk : ∀ ls' : Array Slot, lv_has ls' nL lv' → W p l e R s m args below meth c H locs cells slots Q (F0 m (pc + 3) ls' rest)) : W p l e R s m args below meth c H locs cells slots Q (F0 m pc ls rest) :=
  lv_iinc S.1 S.2.1 hdg h hk (nI_1 x) hn hl kk
theorem p_iinc (S : CallFix p m c cc nL s args lw_all own) {i k x : Nat} {lv lv' : List (Nat × Value)} (hdg : decode cc pc = .ok (.iinc i (-1), 3)) (h : lv_has ls nL lv) (hk : lv[k]? = some (i, .int (nI x))) (hn : i < nL) (hl : (i, Value.int (pI x)) :: lv.filter (fun q => !(q.1 == i) && !(q.1 + 1 == i && q.2.category == 2)) = lv') (kk : ∀ ls' : Array Slot, lv_has ls' nL lv' → W p l e R s m args below meth c H locs cells slots Q (F0 m (pc + 3) ls' rest)) : W p l e R s m args below meth c H locs cells slots Q (F0 m pc ls rest) :=
  lv_iinc S.1 S.2.1 hdg h hk (pI_m x) hn hl kk
theorem nI_xor (a b : Nat) : nI a ^^^ nI b = nI (a ^^^ b) := by
  apply Int32.toBitVec_inj.mp
  rw [Int32.toBitVec_xor, nI_bv, nI_bv, nI_bv, BitVec.ofNat_xor]
theorem n_ixor (S : CallFix p m c cc nL s args lw_all own) {x y : Nat} (hdg : decode cc pc = .ok (.ixor, 1)) (kk : W p l e R s m args below meth c H locs cells slots Q (F0 m (pc + 1) ls (.int (nI (x ^^^ y)) :: rest))) : W p l e R s m args below meth c H locs cells slots Q (F0 m pc ls (.int (nI y) :: .int (nI x) :: rest)) := by
  refine lv_ixor S.1 S.2.1 hdg ?_
  rw [nI_xor]; exact kk
theorem n_imulc (S : CallFix p m c cc nL s args lw_all own) {x y : Nat} (hdg : decode cc pc = .ok (.imul, 1)) (kk : W p l e R s m args below meth c H locs cells slots Q (F0 m (pc + 1) ls (.int (nI (y * x)) :: rest))) : W p l e R s m args below meth c H locs cells slots Q (F0 m pc ls (.int (nI y) :: .int (nI x) :: rest)) := by
  refine lv_imul S.1 S.2.1 hdg ?_
  rw [pk_mul, Nat.mul_comm]; exact kk
theorem n_iincm {x : Nat} (h0 : 0 < x) (S : CallFix p m c cc nL s args lw_all own) {i k : Nat} {lv lv' : List (Nat × Value)} (hdg : decode cc pc = .ok (.iinc i (-1), 3)) (h : lv_has ls nL lv) (hk : lv[k]? = some (i, .int (nI x))) (hn : i < nL) (hl : (i, Value.int (nI (x - 1))) :: lv.filter (fun q => !(q.1 == i) && !(q.1 + 1 == i && q.2.category == 2)) = lv') (kk : ∀ ls' : Array Slot, lv_has ls' nL lv' → W p l e R s m args below meth c H locs cells slots Q (F0 m (pc + 3) ls' rest)) : W p l e R s m args below meth c H locs cells slots Q (F0 m pc ls rest) :=
  lv_iinc S.1 S.2.1 hdg h hk (sb_m1 h0) hn hl kk
theorem n_iinc4 (S : CallFix p m c cc nL s args lw_all own) {i k x : Nat} {lv lv' : List (Nat × Value)} (hdg : decode cc pc = .ok (.iinc i 4, 3)) (h : lv_has ls nL lv) (hk : lv[k]? = some (i, .int (nI x))) (hn : i < nL) (hl : (i, Value.int (nI (x + 4))) :: lv.filter (fun q => !(q.1 == i) && !(q.1 + 1 == i && q.2.category == 2)) = lv') (kk : ∀ ls' : Array Slot, lv_has ls' nL lv' → W p l e R s m args below meth c H locs cells slots Q (F0 m (pc + 3) ls' rest)) : W p l e R s m args below meth c H locs cells slots Q (F0 m pc ls rest) :=
  lv_iinc S.1 S.2.1 hdg h hk (nI_add x 4) hn hl kk
end GW
/-! contracts over a state -/
def gPre (D : va_G) (L : gU → va_W) (T : List (ClassId × FieldType)) (u : gU) (sz : Nat) (U : State) : Prop := U.heap.size = sz ∧ va_P D vwCl (L u) U.heap ∧ va_K D vwCl T U ∧ va_D (fun _ => True) (L u)
def gB (D : va_G) (L : gU → va_W) (T : List (ClassId × FieldType)) (A : Nat → Prop) (u' : gU) (t : State) : Prop := va_P D vwCl (L u') t.heap ∧ va_K D vwCl T t ∧ va_D A (L u')
/-- a method with an int answer -/
def gMi (l : Launch) (y : MethodName) (cc : ByteArray) (nL : Nat) (rt : FieldType) (rm : Room) (D : va_G) (L : gU → va_W) (T : List (ClassId × FieldType)) (As : List Value) (u : gU) (post : Int32 → gU → Prop) : Prop :=
  ∀ sz : Nat, Met l y (ws_ y cc nL (some rt)) rm (va_Pc As (gPre D L T u sz)) (va_Qi post (gB D L T (va_A (L u) sz)) (va_A (L u) sz)) 0 0 (va_A (L u) sz)
/-- a method without an answer -/
def gMv (l : Launch) (y : MethodName) (cc : ByteArray) (nL : Nat) (rm : Room) (D : va_G) (L : gU → va_W) (T : List (ClassId × FieldType)) (As : List Value) (u : gU) (post : gU → Prop) : Prop :=
  ∀ sz : Nat, Met l y (ws_ y cc nL none) rm (va_Pc As (gPre D L T u sz)) (va_Qv post (gB D L T (va_A (L u) sz)) (va_A (L u) sz)) 0 0 (va_A (L u) sz)
/-- the room of a method that calls k deep -/
def rk (k : Nat) : Room := { frames := k, cells := 0, slots := 0, locals := 40 * k }
theorem gPre_blind {D : va_G} {L : gU → va_W} {T : List (ClassId × FieldType)} {u : gU} {sz : Nat} {As : List Value} : FrameBlind (va_Pc As (gPre D L T u sz)) := by
  intro a U g mk q
  obtain ⟨q0, q1, qP, qK, qD⟩ := q
  exact ⟨q0, q1, qP, va_K.moved (u := U) (U := U.calling g mk a) (Vm.Alike.refl U.vm) qK, qD⟩
theorem gMi_of {l : Launch} {y : MethodName} {cc : ByteArray} {nL : Nat} {rt : FieldType} {rm : Room} {D : va_G} {L : gU → va_W} {T : List (ClassId × FieldType)} {As : List Value} {u : gU} {post : Int32 → gU → Prop} (hy : plainName y.cls = true) (hfit : (lg_sl As).length ≤ nL)
    (body : ∀ (p : Program) (e : Env) (s : State) (m : MethodId) (args : Array Value) (below : List Frame) (meth : Method) (c : Code) (A : Nat → Prop) (Q : State → Prop) (ls : Array Slot),
      CallFix p m c cc nL s args lw_all y.cls → gW D L T A s s.heap [] u → lv_has ls nL (lv_args 0 As) →
      (∀ {pc : Nat} {H : Heap} {locs : List Loc} {ls : Array Slot} (v : Int32) (u' : gU), decode cc pc = .ok (.ireturn, 1) → narrow rt (.int v) = .int v → post v u' → gW D L T A s H locs u' → W p l e rm s m args below meth c H locs 0 0 Q (F0 m pc ls [.int v])) →
      W p l e rm s m args below meth c s.heap [] 0 0 Q (F0 m 0 ls [])) : gMi l y cc nL rt rm D L T As u post := by
  intro sz
  refine Met.ofW (cc := cc) (maxL := nL) (ret := some rt) hy rfl ?_
  intro p e s m args below meth c s₁ B hml hv
  obtain ⟨rfl, hsz, hP, hK, hD0⟩ := hv
  subst hsz
  have hD := hD0.self (sz := s.heap.size)
  have hl := lv_entry As (n := nL) hfit
  rw [lg_entry_eq]
  have hts := atoms_spec (ws := ws_ y cc nL (some rt)) B.pre
  refine body p e s m As.toArray below meth c (va_A (L u) s.heap.size) _ _ ⟨B.exec, B.bytes, hml, findClass_of_methodNamed B.named, fun w h => hts w (List.mem_cons_of_mem _ h)⟩ ⟨hK, hP, hD, va_S.rf, fun q h => Or.inr h⟩ hl ?_
  intro pc H locs ls v u' hdg hn hp hw
  obtain ⟨hK', hP', hD', hS', -⟩ := hw
  exact W.zret (hlocks := B.notSynchronized) B.exec B.bytes B.returns hn (fun t ht hW => ⟨⟨v, u', rfl, hp, by rw [ht]; exact hP', va_K.moved hW.alike hK', hD'⟩, hS'.F ht⟩) hS'.2.2 hdg
theorem gMv_of {l : Launch} {y : MethodName} {cc : ByteArray} {nL : Nat} {rm : Room} {D : va_G} {L : gU → va_W} {T : List (ClassId × FieldType)} {As : List Value} {u : gU} {post : gU → Prop} (hy : plainName y.cls = true) (hfit : (lg_sl As).length ≤ nL)
    (body : ∀ (p : Program) (e : Env) (s : State) (m : MethodId) (args : Array Value) (below : List Frame) (meth : Method) (c : Code) (A : Nat → Prop) (Q : State → Prop) (ls : Array Slot),
      CallFix p m c cc nL s args lw_all y.cls → gW D L T A s s.heap [] u → lv_has ls nL (lv_args 0 As) →
      (∀ {pc : Nat} {H : Heap} {locs : List Loc} {ls : Array Slot} (u' : gU), decode cc pc = .ok (.return_, 1) → post u' → gW D L T A s H locs u' → W p l e rm s m args below meth c H locs 0 0 Q (F0 m pc ls [])) →
      W p l e rm s m args below meth c s.heap [] 0 0 Q (F0 m 0 ls [])) : gMv l y cc nL rm D L T As u post := by
  intro sz
  refine Met.ofW (cc := cc) (maxL := nL) (ret := none) hy rfl ?_
  intro p e s m args below meth c s₁ B hml hv
  obtain ⟨rfl, hsz, hP, hK, hD0⟩ := hv
  subst hsz
  have hD := hD0.self (sz := s.heap.size)
  have hl := lv_entry As (n := nL) hfit
  rw [lg_entry_eq]
  have hts := atoms_spec (ws := ws_ y cc nL none) B.pre
  refine body p e s m As.toArray below meth c (va_A (L u) s.heap.size) _ _ ⟨B.exec, B.bytes, hml, findClass_of_methodNamed B.named, fun w h => hts w (List.mem_cons_of_mem _ h)⟩ ⟨hK, hP, hD, va_S.rf, fun q h => Or.inr h⟩ hl ?_
  intro pc H locs ls u' hdg hp hw
  obtain ⟨hK', hP', hD', hS', -⟩ := hw
  exact W.vret (hlocks := B.notSynchronized) B.exec B.bytes B.returns (fun t ht hW => ⟨⟨u', rfl, hp, by rw [ht]; exact hP', va_K.moved hW.alike hK', hD'⟩, hS'.F ht⟩) hS'.2.2 hdg
section GC
variable {p : Program} {l : Launch} {e : Env} {R : Room} {s : State} {m : MethodId} {args : Array Value} {below : List Frame} {meth : Method} {c : Code} {H : Heap} {locs : List Loc} {cells slots : Nat} {Q : State → Prop}
variable {cc bytes : ByteArray} {pc nL n index maxL : Nat} {ls : Array Slot} {rest As : List Value} {D : va_G} {A : Nat → Prop} {b : Nat} {T : List (ClassId × FieldType)} {L : gU → va_W} {u : gU} {own C : String} {y : MethodName} {rt : FieldType} {rm : Room}
theorem gW_back {t : State} {H1 : Heap} {locs1 : List Loc} {u' : gU} (hw : gW D L T A s H locs u) (ht : t.heap = H1) (hvm : s.vm.Alike t.vm) (hB : gB D L T (va_A (L u) H.size) u' t) (hS : va_S A s.heap H1 locs1) : gW D L T A s H1 locs1 u' := by
  obtain ⟨hP1, hK1, hD1⟩ := hB
  rw [ht] at hP1
  refine ⟨hw.1, hP1, hD1.weaken (fun k q _ hq => ?_), hS, hw.2.2.2.2⟩
  rcases hq with ⟨k2, e2, h2⟩ | h2
  · exact hw.2.2.1.2 k2 (q.1, e2) h2
  · exact hw.2.2.2.2 _ (Nat.le_trans hw.2.2.2.1.1 h2)
theorem gW_free (hw : gW D L T A s H locs u) : ∀ q, va_A (L u) H.size q → A q := by
  intro q hq
  rcases hq with ⟨k2, e2, h2⟩ | h2
  · exact hw.2.2.1.2 k2 _ h2
  · exact hw.2.2.2.2 _ (Nat.le_trans hw.2.2.2.1.1 h2)
/-- a call of a method of the world's own object, with an int answer -/
theorem g_calli {post : Int32 → gU → Prop} (S : CallFix p m c cc nL s args lw_all own) (hw : gW D L T A s H locs u) {ci : Nat} {fs : List Value} {r : vw_C} (he : (L u)[0]? = some (b, .inr (ci, fs))) (hc : vwCl[ci]? = some r) (hM : gMi l y bytes maxL rt rm D L T (.ref b :: As) u post) (cw : CallW R s args own r.1 index y bytes maxL (some rt) (ws_ y bytes maxL (some rt)) rm 0 0 n)
    (hn : As.length = n) (hsz : ls.size = nL) {st : List Value} (hst : st = As.reverse ++ .ref b :: rest) (hroom : (rest.map fun v => v.category).sum ≤ 8) (hdg : decode cc pc = .ok (.invokevirtual index, 3)) (hf : cells ≤ R.cells ∧ slots ≤ R.slots)
    (kk : ∀ (r : Int32) (u' : gU) (H1 : Heap) (locs1 : List Loc), post r u' → gW D L T A s H1 locs1 u' → W p l e R s m args below meth c H1 locs1 cells slots Q (F0 m (pc + 3) ls (.int r :: rest))) : W p l e R s m args below meth c H locs cells slots Q (F0 m pc ls st) := by
  refine va_calli (va_runV (As := As) (rest := rest) S (hM H.size) cw ⟨gPre_blind, va_recv hw.1 hw.2.1 hc he, fun U hU hW => ⟨rfl, by rw [hU], by rw [hU]; exact hw.2.1, va_K.moved hW.alike hw.1, hw.2.2.1.weaken (fun _ _ _ _ => trivial)⟩⟩ rfl hn hsz hst (lv_room hroom) hdg hf) hw.2.2.2.1 (fun q _ h => gW_free hw q h) (gW_free hw) (fun r u' t H1 locs1 ht hvm hp hB hz hk hS => kk r u' H1 locs1 hp (gW_back hw ht hvm hB hS))
theorem g_callv {post : gU → Prop} (S : CallFix p m c cc nL s args lw_all own) (hw : gW D L T A s H locs u) {ci : Nat} {fs : List Value} {r : vw_C} (he : (L u)[0]? = some (b, .inr (ci, fs))) (hc : vwCl[ci]? = some r) (hM : gMv l y bytes maxL rm D L T (.ref b :: As) u post) (cw : CallW R s args own r.1 index y bytes maxL none (ws_ y bytes maxL none) rm 0 0 n)
    (hn : As.length = n) (hsz : ls.size = nL) {st : List Value} (hst : st = As.reverse ++ .ref b :: rest) (hroom : (rest.map fun v => v.category).sum ≤ 8) (hdg : decode cc pc = .ok (.invokevirtual index, 3)) (hf : cells ≤ R.cells ∧ slots ≤ R.slots)
    (kk : ∀ (u' : gU) (H1 : Heap) (locs1 : List Loc), post u' → gW D L T A s H1 locs1 u' → W p l e R s m args below meth c H1 locs1 cells slots Q (F0 m (pc + 3) ls rest)) : W p l e R s m args below meth c H locs cells slots Q (F0 m pc ls st) := by
  refine va_callv (va_runV (As := As) (rest := rest) S (hM H.size) cw ⟨gPre_blind, va_recv hw.1 hw.2.1 hc he, fun U hU hW => ⟨rfl, by rw [hU], by rw [hU]; exact hw.2.1, va_K.moved hW.alike hw.1, hw.2.2.1.weaken (fun _ _ _ _ => trivial)⟩⟩ rfl hn hsz hst (lv_room hroom) hdg hf) hw.2.2.2.1 (fun q _ h => gW_free hw q h) (gW_free hw) (fun u' t H1 locs1 ht hvm hp hB hz hk hS => kk u' H1 locs1 hp (gW_back hw ht hvm hB hS))
/-- a static call, the world standing by -/
theorem g_calls {post : Int32 → gU → Prop} (S : CallFix p m c cc nL s args lw_all own) (hw : gW D L T A s H locs u) (hM : gMi l y bytes maxL rt rm D L T As u post) (cw : CallB R s args own index y bytes maxL (some rt) (ws_ y bytes maxL (some rt)) rm 0 0 n ∧ (Cond.static y).before args s = true)
    (hn : As.length = n) (hsz : ls.size = nL) {st : List Value} (hst : st = As.reverse ++ rest) (hroom : (rest.map fun v => v.category).sum ≤ 8) (hdg : decode cc pc = .ok (.invokestatic index, 3)) (hf : cells ≤ R.cells ∧ slots ≤ R.slots)
    (kk : ∀ (r : Int32) (u' : gU) (H1 : Heap) (locs1 : List Loc), post r u' → gW D L T A s H1 locs1 u' → W p l e R s m args below meth c H1 locs1 cells slots Q (F0 m (pc + 3) ls (.int r :: rest))) : W p l e R s m args below meth c H locs cells slots Q (F0 m pc ls st) := by
  refine va_calli (va_runS (As := As) (rest := rest) S (hM H.size) cw ⟨gPre_blind, fun U hU hW => ⟨rfl, by rw [hU], by rw [hU]; exact hw.2.1, va_K.moved hW.alike hw.1, hw.2.2.1.weaken (fun _ _ _ _ => trivial)⟩⟩ rfl hn hsz hst (lv_room hroom) hdg hf) hw.2.2.2.1 (fun q _ h => gW_free hw q h) (gW_free hw) (fun r u' t H1 locs1 ht hvm hp hB hz hk hS => kk r u' H1 locs1 hp (gW_back hw ht hvm hB hS))
end GC
end
section
/-! the two worlds, printed by gen/worlds.py: place 0 the object at h 0; the array of field k at h (k + 1), its cells u k; a number field k is u k 0 -/
set_option maxRecDepth 100000
def xF (h : Nat → Nat) (u : gU) : List Value := [.ref (h 1), .ref (h 2), .ref (h 3), .ref (h 4), .int (nI (u 4 0)), .ref (h 6), .ref (h 7), .ref (h 8), .int (nI (u 8 0)), .ref (h 10), .ref (h 11)]
def xL (h : Nat → Nat) (d : Nat → ClassId) (u : gU) : va_W := [(h 0, .inr (0, xF h u)), (h 1, .inl (d 0, 6, .inl (fun i => nI (u 0 i)))), (h 2, .inl (d 1, 144, .inl (fun i => nI (u 1 i)))), (h 3, .inl (d 2, 72, .inl (fun i => nI (u 2 i)))), (h 4, .inl (d 3, 12, .inl (fun i => nI (u 3 i)))), (h 6, .inl (d 5, 12, .inl (fun i => nI (u 5 i)))), (h 7, .inl (d 6, 14, .inl (fun i => nI (u 6 i)))), (h 8, .inl (d 7, 14, .inl (fun i => nI (u 7 i)))), (h 10, .inl (d 9, 288, .inl (fun i => nI (u 9 i)))), (h 11, .inl (d 10, 12, .inl (fun i => nI (u 10 i))))]
def xT (d : Nat → ClassId) : List (ClassId × FieldType) := [(d 0, .byte), (d 1, .byte), (d 2, .int), (d 3, .byte), (d 5, .byte), (d 6, .byte), (d 7, .byte), (d 9, .int), (d 10, .boolean)]
abbrev xW (D : va_G) (h : Nat → Nat) (d : Nat → ClassId) (A : Nat → Prop) (s : State) (H : Heap) (locs : List Loc) (u : gU) : Prop := gW D (xL h d) (xT d) A s H locs u
section XW
variable {p : Program} {l : Launch} {e : Env} {R : Room} {s : State} {m : MethodId} {args : Array Value} {below : List Frame} {meth : Method} {c : Code} {H : Heap} {locs : List Loc} {cells slots : Nat} {Q : State → Prop}
variable {cc : ByteArray} {pc nL : Nat} {ls : Array Slot} {rest : List Value} {D : va_G} {A : Nat → Prop} {u : gU} {h : Nat → Nat} {d : Nat → ClassId}
theorem x_g0 (S : CallFix p m c cc nL s args lw_all RX0) (hw : xW D h d A s H locs u) (hdg : decode cc pc = .ok (.getfield 7, 3)) (kk : W p l e R s m args below meth c H locs cells slots Q (F0 m (pc + 3) ls (.ref (h 1) :: rest))) : W p l e R s m args below meth c H locs cells slots Q (F0 m pc ls (.ref (h 0) :: rest)) :=
  g_get (ref := RX0) S hw in_X0 rfl rfl 0 (by decide) q29 rfl rfl hdg kk
theorem x_g1 (S : CallFix p m c cc nL s args lw_all RX0) (hw : xW D h d A s H locs u) (hdg : decode cc pc = .ok (.getfield 13, 3)) (kk : W p l e R s m args below meth c H locs cells slots Q (F0 m (pc + 3) ls (.ref (h 2) :: rest))) : W p l e R s m args below meth c H locs cells slots Q (F0 m pc ls (.ref (h 0) :: rest)) :=
  g_get (ref := RX0) S hw in_X0 rfl rfl 1 (by decide) q30 rfl rfl hdg kk
theorem x_g2 (S : CallFix p m c cc nL s args lw_all RX0) (hw : xW D h d A s H locs u) (hdg : decode cc pc = .ok (.getfield 16, 3)) (kk : W p l e R s m args below meth c H locs cells slots Q (F0 m (pc + 3) ls (.ref (h 3) :: rest))) : W p l e R s m args below meth c H locs cells slots Q (F0 m pc ls (.ref (h 0) :: rest)) :=
  g_get (ref := RX0) S hw in_X0 rfl rfl 2 (by decide) q31 rfl rfl hdg kk
theorem x_g3 (S : CallFix p m c cc nL s args lw_all RX0) (hw : xW D h d A s H locs u) (hdg : decode cc pc = .ok (.getfield 20, 3)) (kk : W p l e R s m args below meth c H locs cells slots Q (F0 m (pc + 3) ls (.ref (h 4) :: rest))) : W p l e R s m args below meth c H locs cells slots Q (F0 m pc ls (.ref (h 0) :: rest)) :=
  g_get (ref := RX0) S hw in_X0 rfl rfl 3 (by decide) q32 rfl rfl hdg kk
theorem x_g4 (S : CallFix p m c cc nL s args lw_all RX0) (hw : xW D h d A s H locs u) (hdg : decode cc pc = .ok (.getfield 49, 3)) (kk : W p l e R s m args below meth c H locs cells slots Q (F0 m (pc + 3) ls (.int (nI (u 4 0)) :: rest))) : W p l e R s m args below meth c H locs cells slots Q (F0 m pc ls (.ref (h 0) :: rest)) :=
  g_get (ref := RX0) S hw in_X0 rfl rfl 4 (by decide) q33 rfl rfl hdg kk
theorem x_p4 (S : CallFix p m c cc nL s args lw_all RX0) (hw : xW D h d A s H locs u) {x : Nat} (hdg : decode cc pc = .ok (.putfield 49, 3)) (kk : ∀ (u' : gU), u' = gup u 4 0 x → ∀ (H1 : Heap) (locs1 : List Loc), xW D h d A s H1 locs1 u' → W p l e R s m args below meth c H1 locs1 cells slots Q (F0 m (pc + 3) ls rest)) : W p l e R s m args below meth c H locs cells slots Q (F0 m pc ls (.int (nI x) :: .ref (h 0) :: rest)) :=
  g_put (ref := RX0) S hw in_X0 tyX0 tyX0_ok nmX0 rfl rfl 4 (by decide) q33 rfl rfl (by decide +kernel) (Nat.le_of_ble_eq_true rfl) rfl hdg (kk _ rfl)
theorem x_g5 (S : CallFix p m c cc nL s args lw_all RX0) (hw : xW D h d A s H locs u) (hdg : decode cc pc = .ok (.getfield 23, 3)) (kk : W p l e R s m args below meth c H locs cells slots Q (F0 m (pc + 3) ls (.ref (h 6) :: rest))) : W p l e R s m args below meth c H locs cells slots Q (F0 m pc ls (.ref (h 0) :: rest)) :=
  g_get (ref := RX0) S hw in_X0 rfl rfl 5 (by decide) q34 rfl rfl hdg kk
theorem x_g6 (S : CallFix p m c cc nL s args lw_all RX0) (hw : xW D h d A s H locs u) (hdg : decode cc pc = .ok (.getfield 26, 3)) (kk : W p l e R s m args below meth c H locs cells slots Q (F0 m (pc + 3) ls (.ref (h 7) :: rest))) : W p l e R s m args below meth c H locs cells slots Q (F0 m pc ls (.ref (h 0) :: rest)) :=
  g_get (ref := RX0) S hw in_X0 rfl rfl 6 (by decide) q35 rfl rfl hdg kk
theorem x_g7 (S : CallFix p m c cc nL s args lw_all RX0) (hw : xW D h d A s H locs u) (hdg : decode cc pc = .ok (.getfield 29, 3)) (kk : W p l e R s m args below meth c H locs cells slots Q (F0 m (pc + 3) ls (.ref (h 8) :: rest))) : W p l e R s m args below meth c H locs cells slots Q (F0 m pc ls (.ref (h 0) :: rest)) :=
  g_get (ref := RX0) S hw in_X0 rfl rfl 7 (by decide) q36 rfl rfl hdg kk
theorem x_g8 (S : CallFix p m c cc nL s args lw_all RX0) (hw : xW D h d A s H locs u) (hdg : decode cc pc = .ok (.getfield 53, 3)) (kk : W p l e R s m args below meth c H locs cells slots Q (F0 m (pc + 3) ls (.int (nI (u 8 0)) :: rest))) : W p l e R s m args below meth c H locs cells slots Q (F0 m pc ls (.ref (h 0) :: rest)) :=
  g_get (ref := RX0) S hw in_X0 rfl rfl 8 (by decide) q37 rfl rfl hdg kk
theorem x_p8 (S : CallFix p m c cc nL s args lw_all RX0) (hw : xW D h d A s H locs u) {x : Nat} (hdg : decode cc pc = .ok (.putfield 53, 3)) (kk : ∀ (u' : gU), u' = gup u 8 0 x → ∀ (H1 : Heap) (locs1 : List Loc), xW D h d A s H1 locs1 u' → W p l e R s m args below meth c H1 locs1 cells slots Q (F0 m (pc + 3) ls rest)) : W p l e R s m args below meth c H locs cells slots Q (F0 m pc ls (.int (nI x) :: .ref (h 0) :: rest)) :=
  g_put (ref := RX0) S hw in_X0 tyX0 tyX0_ok nmX0 rfl rfl 8 (by decide) q37 rfl rfl (by decide +kernel) (Nat.le_of_ble_eq_true rfl) rfl hdg (kk _ rfl)
theorem x_g9 (S : CallFix p m c cc nL s args lw_all RX0) (hw : xW D h d A s H locs u) (hdg : decode cc pc = .ok (.getfield 32, 3)) (kk : W p l e R s m args below meth c H locs cells slots Q (F0 m (pc + 3) ls (.ref (h 10) :: rest))) : W p l e R s m args below meth c H locs cells slots Q (F0 m pc ls (.ref (h 0) :: rest)) :=
  g_get (ref := RX0) S hw in_X0 rfl rfl 9 (by decide) q38 rfl rfl hdg kk
theorem x_g10 (S : CallFix p m c cc nL s args lw_all RX0) (hw : xW D h d A s H locs u) (hdg : decode cc pc = .ok (.getfield 35, 3)) (kk : W p l e R s m args below meth c H locs cells slots Q (F0 m (pc + 3) ls (.ref (h 11) :: rest))) : W p l e R s m args below meth c H locs cells slots Q (F0 m pc ls (.ref (h 0) :: rest)) :=
  g_get (ref := RX0) S hw in_X0 rfl rfl 10 (by decide) q39 rfl rfl hdg kk
theorem x_l0 (S : CallFix p m c cc nL s args lw_all RX0) (hw : xW D h d A s H locs u) {i : Nat} (hi : i < 6) (hdg : decode cc pc = .ok (.baload, 1)) (kk : W p l e R s m args below meth c H locs cells slots Q (F0 m (pc + 1) ls (.int (nI (u 0 i)) :: rest))) : W p l e R s m args below meth c H locs cells slots Q (F0 m pc ls (.int (nI i) :: .ref (h 1) :: rest)) :=
  g_bld S hw 1 0 rfl rfl (by decide) hi hdg kk
theorem x_s0 (S : CallFix p m c cc nL s args lw_all RX0) (hw : xW D h d A s H locs u) {i x : Nat} (hi : i < 6) (hx : x < 128) (hdg : decode cc pc = .ok (.bastore, 1)) (kk : ∀ (u' : gU), u' = gup u 0 i x → ∀ (H1 : Heap) (locs1 : List Loc), xW D h d A s H1 locs1 u' → W p l e R s m args below meth c H1 locs1 cells slots Q (F0 m (pc + 1) ls rest)) : W p l e R s m args below meth c H locs cells slots Q (F0 m pc ls (.int (nI x) :: .int (nI i) :: .ref (h 1) :: rest)) :=
  g_bst S hw 1 0 0 rfl rfl (by decide) rfl hi hx hdg (kk _ rfl)
theorem x_l1 (S : CallFix p m c cc nL s args lw_all RX0) (hw : xW D h d A s H locs u) {i : Nat} (hi : i < 144) (hdg : decode cc pc = .ok (.baload, 1)) (kk : W p l e R s m args below meth c H locs cells slots Q (F0 m (pc + 1) ls (.int (nI (u 1 i)) :: rest))) : W p l e R s m args below meth c H locs cells slots Q (F0 m pc ls (.int (nI i) :: .ref (h 2) :: rest)) :=
  g_bld S hw 2 1 rfl rfl (by decide) hi hdg kk
theorem x_s1 (S : CallFix p m c cc nL s args lw_all RX0) (hw : xW D h d A s H locs u) {i x : Nat} (hi : i < 144) (hx : x < 128) (hdg : decode cc pc = .ok (.bastore, 1)) (kk : ∀ (u' : gU), u' = gup u 1 i x → ∀ (H1 : Heap) (locs1 : List Loc), xW D h d A s H1 locs1 u' → W p l e R s m args below meth c H1 locs1 cells slots Q (F0 m (pc + 1) ls rest)) : W p l e R s m args below meth c H locs cells slots Q (F0 m pc ls (.int (nI x) :: .int (nI i) :: .ref (h 2) :: rest)) :=
  g_bst S hw 2 1 1 rfl rfl (by decide) rfl hi hx hdg (kk _ rfl)
theorem x_l2 (S : CallFix p m c cc nL s args lw_all RX0) (hw : xW D h d A s H locs u) {i : Nat} (hi : i < 72) (hdg : decode cc pc = .ok (.iaload, 1)) (kk : W p l e R s m args below meth c H locs cells slots Q (F0 m (pc + 1) ls (.int (nI (u 2 i)) :: rest))) : W p l e R s m args below meth c H locs cells slots Q (F0 m pc ls (.int (nI i) :: .ref (h 3) :: rest)) :=
  g_ild S hw 3 2 rfl rfl (by decide) hi hdg kk
theorem x_s2 (S : CallFix p m c cc nL s args lw_all RX0) (hw : xW D h d A s H locs u) {i x : Nat} (hi : i < 72) (hdg : decode cc pc = .ok (.iastore, 1)) (kk : ∀ (u' : gU), u' = gup u 2 i x → ∀ (H1 : Heap) (locs1 : List Loc), xW D h d A s H1 locs1 u' → W p l e R s m args below meth c H1 locs1 cells slots Q (F0 m (pc + 1) ls rest)) : W p l e R s m args below meth c H locs cells slots Q (F0 m pc ls (.int (nI x) :: .int (nI i) :: .ref (h 3) :: rest)) :=
  g_ist S hw 3 2 2 rfl rfl (by decide) rfl hi hdg (kk _ rfl)
theorem x_l3 (S : CallFix p m c cc nL s args lw_all RX0) (hw : xW D h d A s H locs u) {i : Nat} (hi : i < 12) (hdg : decode cc pc = .ok (.baload, 1)) (kk : W p l e R s m args below meth c H locs cells slots Q (F0 m (pc + 1) ls (.int (nI (u 3 i)) :: rest))) : W p l e R s m args below meth c H locs cells slots Q (F0 m pc ls (.int (nI i) :: .ref (h 4) :: rest)) :=
  g_bld S hw 4 3 rfl rfl (by decide) hi hdg kk
theorem x_s3 (S : CallFix p m c cc nL s args lw_all RX0) (hw : xW D h d A s H locs u) {i x : Nat} (hi : i < 12) (hx : x < 128) (hdg : decode cc pc = .ok (.bastore, 1)) (kk : ∀ (u' : gU), u' = gup u 3 i x → ∀ (H1 : Heap) (locs1 : List Loc), xW D h d A s H1 locs1 u' → W p l e R s m args below meth c H1 locs1 cells slots Q (F0 m (pc + 1) ls rest)) : W p l e R s m args below meth c H locs cells slots Q (F0 m pc ls (.int (nI x) :: .int (nI i) :: .ref (h 4) :: rest)) :=
  g_bst S hw 4 3 3 rfl rfl (by decide) rfl hi hx hdg (kk _ rfl)
theorem x_l5 (S : CallFix p m c cc nL s args lw_all RX0) (hw : xW D h d A s H locs u) {i : Nat} (hi : i < 12) (hdg : decode cc pc = .ok (.baload, 1)) (kk : W p l e R s m args below meth c H locs cells slots Q (F0 m (pc + 1) ls (.int (nI (u 5 i)) :: rest))) : W p l e R s m args below meth c H locs cells slots Q (F0 m pc ls (.int (nI i) :: .ref (h 6) :: rest)) :=
  g_bld S hw 5 4 rfl rfl (by decide) hi hdg kk
theorem x_s5 (S : CallFix p m c cc nL s args lw_all RX0) (hw : xW D h d A s H locs u) {i x : Nat} (hi : i < 12) (hx : x < 128) (hdg : decode cc pc = .ok (.bastore, 1)) (kk : ∀ (u' : gU), u' = gup u 5 i x → ∀ (H1 : Heap) (locs1 : List Loc), xW D h d A s H1 locs1 u' → W p l e R s m args below meth c H1 locs1 cells slots Q (F0 m (pc + 1) ls rest)) : W p l e R s m args below meth c H locs cells slots Q (F0 m pc ls (.int (nI x) :: .int (nI i) :: .ref (h 6) :: rest)) :=
  g_bst S hw 5 4 5 rfl rfl (by decide) rfl hi hx hdg (kk _ rfl)
theorem x_l6 (S : CallFix p m c cc nL s args lw_all RX0) (hw : xW D h d A s H locs u) {i : Nat} (hi : i < 14) (hdg : decode cc pc = .ok (.baload, 1)) (kk : W p l e R s m args below meth c H locs cells slots Q (F0 m (pc + 1) ls (.int (nI (u 6 i)) :: rest))) : W p l e R s m args below meth c H locs cells slots Q (F0 m pc ls (.int (nI i) :: .ref (h 7) :: rest)) :=
  g_bld S hw 6 5 rfl rfl (by decide) hi hdg kk
theorem x_s6 (S : CallFix p m c cc nL s args lw_all RX0) (hw : xW D h d A s H locs u) {i x : Nat} (hi : i < 14) (hx : x < 128) (hdg : decode cc pc = .ok (.bastore, 1)) (kk : ∀ (u' : gU), u' = gup u 6 i x → ∀ (H1 : Heap) (locs1 : List Loc), xW D h d A s H1 locs1 u' → W p l e R s m args below meth c H1 locs1 cells slots Q (F0 m (pc + 1) ls rest)) : W p l e R s m args below meth c H locs cells slots Q (F0 m pc ls (.int (nI x) :: .int (nI i) :: .ref (h 7) :: rest)) :=
  g_bst S hw 6 5 6 rfl rfl (by decide) rfl hi hx hdg (kk _ rfl)
theorem x_l7 (S : CallFix p m c cc nL s args lw_all RX0) (hw : xW D h d A s H locs u) {i : Nat} (hi : i < 14) (hdg : decode cc pc = .ok (.baload, 1)) (kk : W p l e R s m args below meth c H locs cells slots Q (F0 m (pc + 1) ls (.int (nI (u 7 i)) :: rest))) : W p l e R s m args below meth c H locs cells slots Q (F0 m pc ls (.int (nI i) :: .ref (h 8) :: rest)) :=
  g_bld S hw 7 6 rfl rfl (by decide) hi hdg kk
theorem x_s7 (S : CallFix p m c cc nL s args lw_all RX0) (hw : xW D h d A s H locs u) {i x : Nat} (hi : i < 14) (hx : x < 128) (hdg : decode cc pc = .ok (.bastore, 1)) (kk : ∀ (u' : gU), u' = gup u 7 i x → ∀ (H1 : Heap) (locs1 : List Loc), xW D h d A s H1 locs1 u' → W p l e R s m args below meth c H1 locs1 cells slots Q (F0 m (pc + 1) ls rest)) : W p l e R s m args below meth c H locs cells slots Q (F0 m pc ls (.int (nI x) :: .int (nI i) :: .ref (h 8) :: rest)) :=
  g_bst S hw 7 6 7 rfl rfl (by decide) rfl hi hx hdg (kk _ rfl)
theorem x_l9 (S : CallFix p m c cc nL s args lw_all RX0) (hw : xW D h d A s H locs u) {i : Nat} (hi : i < 288) (hdg : decode cc pc = .ok (.iaload, 1)) (kk : W p l e R s m args below meth c H locs cells slots Q (F0 m (pc + 1) ls (.int (nI (u 9 i)) :: rest))) : W p l e R s m args below meth c H locs cells slots Q (F0 m pc ls (.int (nI i) :: .ref (h 10) :: rest)) :=
  g_ild S hw 8 7 rfl rfl (by decide) hi hdg kk
theorem x_s9 (S : CallFix p m c cc nL s args lw_all RX0) (hw : xW D h d A s H locs u) {i x : Nat} (hi : i < 288) (hdg : decode cc pc = .ok (.iastore, 1)) (kk : ∀ (u' : gU), u' = gup u 9 i x → ∀ (H1 : Heap) (locs1 : List Loc), xW D h d A s H1 locs1 u' → W p l e R s m args below meth c H1 locs1 cells slots Q (F0 m (pc + 1) ls rest)) : W p l e R s m args below meth c H locs cells slots Q (F0 m pc ls (.int (nI x) :: .int (nI i) :: .ref (h 10) :: rest)) :=
  g_ist S hw 8 7 9 rfl rfl (by decide) rfl hi hdg (kk _ rfl)
theorem x_l10 (S : CallFix p m c cc nL s args lw_all RX0) (hw : xW D h d A s H locs u) {i : Nat} (hi : i < 12) (hdg : decode cc pc = .ok (.baload, 1)) (kk : W p l e R s m args below meth c H locs cells slots Q (F0 m (pc + 1) ls (.int (nI (u 10 i)) :: rest))) : W p l e R s m args below meth c H locs cells slots Q (F0 m pc ls (.int (nI i) :: .ref (h 11) :: rest)) :=
  g_zld S hw 9 8 rfl rfl (by decide) hi hdg kk
theorem x_s10 (S : CallFix p m c cc nL s args lw_all RX0) (hw : xW D h d A s H locs u) {i x : Nat} (hi : i < 12) (hx : x < 2) (hdg : decode cc pc = .ok (.bastore, 1)) (kk : ∀ (u' : gU), u' = gup u 10 i x → ∀ (H1 : Heap) (locs1 : List Loc), xW D h d A s H1 locs1 u' → W p l e R s m args below meth c H1 locs1 cells slots Q (F0 m (pc + 1) ls rest)) : W p l e R s m args below meth c H locs cells slots Q (F0 m pc ls (.int (nI x) :: .int (nI i) :: .ref (h 11) :: rest)) :=
  g_zst S hw 9 8 10 rfl rfl (by decide) rfl hi hx hdg (kk _ rfl)
end XW
def mF (h : Nat → Nat) (u : gU) : List Value := [.ref (h 1), .ref (h 2), .int (nI (u 2 0)), .ref (h 4), .ref (h 5), .ref (h 6), .ref (h 7)]
def mL (h : Nat → Nat) (d : Nat → ClassId) (u : gU) : va_W := [(h 0, .inr (1, mF h u)), (h 1, .inl (d 0, 6, .inl (fun i => nI (u 0 i)))), (h 2, .inl (d 1, 144, .inl (fun i => nI (u 1 i)))), (h 4, .inl (d 3, 12, .inl (fun i => nI (u 3 i)))), (h 5, .inl (d 4, 288, .inl (fun i => nI (u 4 i)))), (h 6, .inl (d 5, 13, .inl (fun i => nI (u 5 i)))), (h 7, .inl (d 6, 24, .inl (fun i => nI (u 6 i))))]
def mT (d : Nat → ClassId) : List (ClassId × FieldType) := [(d 0, .int), (d 1, .int), (d 3, .int), (d 4, .int), (d 5, .int), (d 6, .int)]
abbrev mW (D : va_G) (h : Nat → Nat) (d : Nat → ClassId) (A : Nat → Prop) (s : State) (H : Heap) (locs : List Loc) (u : gU) : Prop := gW D (mL h d) (mT d) A s H locs u
section MW
variable {p : Program} {l : Launch} {e : Env} {R : Room} {s : State} {m : MethodId} {args : Array Value} {below : List Frame} {meth : Method} {c : Code} {H : Heap} {locs : List Loc} {cells slots : Nat} {Q : State → Prop}
variable {cc : ByteArray} {pc nL : Nat} {ls : Array Slot} {rest : List Value} {D : va_G} {A : Nat → Prop} {u : gU} {h : Nat → Nat} {d : Nat → ClassId}
theorem m_g0 (S : CallFix p m c cc nL s args lw_all RX1) (hw : mW D h d A s H locs u) (hdg : decode cc pc = .ok (.getfield 7, 3)) (kk : W p l e R s m args below meth c H locs cells slots Q (F0 m (pc + 3) ls (.ref (h 1) :: rest))) : W p l e R s m args below meth c H locs cells slots Q (F0 m pc ls (.ref (h 0) :: rest)) :=
  g_get (ref := RX1) S hw in_X1 rfl rfl 0 (by decide) q194 rfl rfl hdg kk
theorem m_g1 (S : CallFix p m c cc nL s args lw_all RX1) (hw : mW D h d A s H locs u) (hdg : decode cc pc = .ok (.getfield 13, 3)) (kk : W p l e R s m args below meth c H locs cells slots Q (F0 m (pc + 3) ls (.ref (h 2) :: rest))) : W p l e R s m args below meth c H locs cells slots Q (F0 m pc ls (.ref (h 0) :: rest)) :=
  g_get (ref := RX1) S hw in_X1 rfl rfl 1 (by decide) q195 rfl rfl hdg kk
theorem m_g2 (S : CallFix p m c cc nL s args lw_all RX1) (hw : mW D h d A s H locs u) (hdg : decode cc pc = .ok (.getfield 32, 3)) (kk : W p l e R s m args below meth c H locs cells slots Q (F0 m (pc + 3) ls (.int (nI (u 2 0)) :: rest))) : W p l e R s m args below meth c H locs cells slots Q (F0 m pc ls (.ref (h 0) :: rest)) :=
  g_get (ref := RX1) S hw in_X1 rfl rfl 2 (by decide) q196 rfl rfl hdg kk
theorem m_p2 (S : CallFix p m c cc nL s args lw_all RX1) (hw : mW D h d A s H locs u) {x : Nat} (hdg : decode cc pc = .ok (.putfield 32, 3)) (kk : ∀ (u' : gU), u' = gup u 2 0 x → ∀ (H1 : Heap) (locs1 : List Loc), mW D h d A s H1 locs1 u' → W p l e R s m args below meth c H1 locs1 cells slots Q (F0 m (pc + 3) ls rest)) : W p l e R s m args below meth c H locs cells slots Q (F0 m pc ls (.int (nI x) :: .ref (h 0) :: rest)) :=
  g_put (ref := RX1) S hw in_X1 tyX1 tyX1_ok nmX1 rfl rfl 2 (by decide) q196 rfl rfl (by decide +kernel) (Nat.le_of_ble_eq_true rfl) rfl hdg (kk _ rfl)
theorem m_g3 (S : CallFix p m c cc nL s args lw_all RX1) (hw : mW D h d A s H locs u) (hdg : decode cc pc = .ok (.getfield 16, 3)) (kk : W p l e R s m args below meth c H locs cells slots Q (F0 m (pc + 3) ls (.ref (h 4) :: rest))) : W p l e R s m args below meth c H locs cells slots Q (F0 m pc ls (.ref (h 0) :: rest)) :=
  g_get (ref := RX1) S hw in_X1 rfl rfl 3 (by decide) q197 rfl rfl hdg kk
theorem m_g4 (S : CallFix p m c cc nL s args lw_all RX1) (hw : mW D h d A s H locs u) (hdg : decode cc pc = .ok (.getfield 19, 3)) (kk : W p l e R s m args below meth c H locs cells slots Q (F0 m (pc + 3) ls (.ref (h 5) :: rest))) : W p l e R s m args below meth c H locs cells slots Q (F0 m pc ls (.ref (h 0) :: rest)) :=
  g_get (ref := RX1) S hw in_X1 rfl rfl 4 (by decide) q198 rfl rfl hdg kk
theorem m_g5 (S : CallFix p m c cc nL s args lw_all RX1) (hw : mW D h d A s H locs u) (hdg : decode cc pc = .ok (.getfield 22, 3)) (kk : W p l e R s m args below meth c H locs cells slots Q (F0 m (pc + 3) ls (.ref (h 6) :: rest))) : W p l e R s m args below meth c H locs cells slots Q (F0 m pc ls (.ref (h 0) :: rest)) :=
  g_get (ref := RX1) S hw in_X1 rfl rfl 5 (by decide) q199 rfl rfl hdg kk
theorem m_g6 (S : CallFix p m c cc nL s args lw_all RX1) (hw : mW D h d A s H locs u) (hdg : decode cc pc = .ok (.getfield 25, 3)) (kk : W p l e R s m args below meth c H locs cells slots Q (F0 m (pc + 3) ls (.ref (h 7) :: rest))) : W p l e R s m args below meth c H locs cells slots Q (F0 m pc ls (.ref (h 0) :: rest)) :=
  g_get (ref := RX1) S hw in_X1 rfl rfl 6 (by decide) q200 rfl rfl hdg kk
theorem m_l0 (S : CallFix p m c cc nL s args lw_all RX1) (hw : mW D h d A s H locs u) {i : Nat} (hi : i < 6) (hdg : decode cc pc = .ok (.iaload, 1)) (kk : W p l e R s m args below meth c H locs cells slots Q (F0 m (pc + 1) ls (.int (nI (u 0 i)) :: rest))) : W p l e R s m args below meth c H locs cells slots Q (F0 m pc ls (.int (nI i) :: .ref (h 1) :: rest)) :=
  g_ild S hw 1 0 rfl rfl (by decide) hi hdg kk
theorem m_s0 (S : CallFix p m c cc nL s args lw_all RX1) (hw : mW D h d A s H locs u) {i x : Nat} (hi : i < 6) (hdg : decode cc pc = .ok (.iastore, 1)) (kk : ∀ (u' : gU), u' = gup u 0 i x → ∀ (H1 : Heap) (locs1 : List Loc), mW D h d A s H1 locs1 u' → W p l e R s m args below meth c H1 locs1 cells slots Q (F0 m (pc + 1) ls rest)) : W p l e R s m args below meth c H locs cells slots Q (F0 m pc ls (.int (nI x) :: .int (nI i) :: .ref (h 1) :: rest)) :=
  g_ist S hw 1 0 0 rfl rfl (by decide) rfl hi hdg (kk _ rfl)
theorem m_l1 (S : CallFix p m c cc nL s args lw_all RX1) (hw : mW D h d A s H locs u) {i : Nat} (hi : i < 144) (hdg : decode cc pc = .ok (.iaload, 1)) (kk : W p l e R s m args below meth c H locs cells slots Q (F0 m (pc + 1) ls (.int (nI (u 1 i)) :: rest))) : W p l e R s m args below meth c H locs cells slots Q (F0 m pc ls (.int (nI i) :: .ref (h 2) :: rest)) :=
  g_ild S hw 2 1 rfl rfl (by decide) hi hdg kk
theorem m_s1 (S : CallFix p m c cc nL s args lw_all RX1) (hw : mW D h d A s H locs u) {i x : Nat} (hi : i < 144) (hdg : decode cc pc = .ok (.iastore, 1)) (kk : ∀ (u' : gU), u' = gup u 1 i x → ∀ (H1 : Heap) (locs1 : List Loc), mW D h d A s H1 locs1 u' → W p l e R s m args below meth c H1 locs1 cells slots Q (F0 m (pc + 1) ls rest)) : W p l e R s m args below meth c H locs cells slots Q (F0 m pc ls (.int (nI x) :: .int (nI i) :: .ref (h 2) :: rest)) :=
  g_ist S hw 2 1 1 rfl rfl (by decide) rfl hi hdg (kk _ rfl)
theorem m_l3 (S : CallFix p m c cc nL s args lw_all RX1) (hw : mW D h d A s H locs u) {i : Nat} (hi : i < 12) (hdg : decode cc pc = .ok (.iaload, 1)) (kk : W p l e R s m args below meth c H locs cells slots Q (F0 m (pc + 1) ls (.int (nI (u 3 i)) :: rest))) : W p l e R s m args below meth c H locs cells slots Q (F0 m pc ls (.int (nI i) :: .ref (h 4) :: rest)) :=
  g_ild S hw 3 2 rfl rfl (by decide) hi hdg kk
theorem m_s3 (S : CallFix p m c cc nL s args lw_all RX1) (hw : mW D h d A s H locs u) {i x : Nat} (hi : i < 12) (hdg : decode cc pc = .ok (.iastore, 1)) (kk : ∀ (u' : gU), u' = gup u 3 i x → ∀ (H1 : Heap) (locs1 : List Loc), mW D h d A s H1 locs1 u' → W p l e R s m args below meth c H1 locs1 cells slots Q (F0 m (pc + 1) ls rest)) : W p l e R s m args below meth c H locs cells slots Q (F0 m pc ls (.int (nI x) :: .int (nI i) :: .ref (h 4) :: rest)) :=
  g_ist S hw 3 2 3 rfl rfl (by decide) rfl hi hdg (kk _ rfl)
theorem m_l4 (S : CallFix p m c cc nL s args lw_all RX1) (hw : mW D h d A s H locs u) {i : Nat} (hi : i < 288) (hdg : decode cc pc = .ok (.iaload, 1)) (kk : W p l e R s m args below meth c H locs cells slots Q (F0 m (pc + 1) ls (.int (nI (u 4 i)) :: rest))) : W p l e R s m args below meth c H locs cells slots Q (F0 m pc ls (.int (nI i) :: .ref (h 5) :: rest)) :=
  g_ild S hw 4 3 rfl rfl (by decide) hi hdg kk
theorem m_s4 (S : CallFix p m c cc nL s args lw_all RX1) (hw : mW D h d A s H locs u) {i x : Nat} (hi : i < 288) (hdg : decode cc pc = .ok (.iastore, 1)) (kk : ∀ (u' : gU), u' = gup u 4 i x → ∀ (H1 : Heap) (locs1 : List Loc), mW D h d A s H1 locs1 u' → W p l e R s m args below meth c H1 locs1 cells slots Q (F0 m (pc + 1) ls rest)) : W p l e R s m args below meth c H locs cells slots Q (F0 m pc ls (.int (nI x) :: .int (nI i) :: .ref (h 5) :: rest)) :=
  g_ist S hw 4 3 4 rfl rfl (by decide) rfl hi hdg (kk _ rfl)
theorem m_l5 (S : CallFix p m c cc nL s args lw_all RX1) (hw : mW D h d A s H locs u) {i : Nat} (hi : i < 13) (hdg : decode cc pc = .ok (.iaload, 1)) (kk : W p l e R s m args below meth c H locs cells slots Q (F0 m (pc + 1) ls (.int (nI (u 5 i)) :: rest))) : W p l e R s m args below meth c H locs cells slots Q (F0 m pc ls (.int (nI i) :: .ref (h 6) :: rest)) :=
  g_ild S hw 5 4 rfl rfl (by decide) hi hdg kk
theorem m_s5 (S : CallFix p m c cc nL s args lw_all RX1) (hw : mW D h d A s H locs u) {i x : Nat} (hi : i < 13) (hdg : decode cc pc = .ok (.iastore, 1)) (kk : ∀ (u' : gU), u' = gup u 5 i x → ∀ (H1 : Heap) (locs1 : List Loc), mW D h d A s H1 locs1 u' → W p l e R s m args below meth c H1 locs1 cells slots Q (F0 m (pc + 1) ls rest)) : W p l e R s m args below meth c H locs cells slots Q (F0 m pc ls (.int (nI x) :: .int (nI i) :: .ref (h 6) :: rest)) :=
  g_ist S hw 5 4 5 rfl rfl (by decide) rfl hi hdg (kk _ rfl)
theorem m_l6 (S : CallFix p m c cc nL s args lw_all RX1) (hw : mW D h d A s H locs u) {i : Nat} (hi : i < 24) (hdg : decode cc pc = .ok (.iaload, 1)) (kk : W p l e R s m args below meth c H locs cells slots Q (F0 m (pc + 1) ls (.int (nI (u 6 i)) :: rest))) : W p l e R s m args below meth c H locs cells slots Q (F0 m pc ls (.int (nI i) :: .ref (h 7) :: rest)) :=
  g_ild S hw 6 5 rfl rfl (by decide) hi hdg kk
theorem m_s6 (S : CallFix p m c cc nL s args lw_all RX1) (hw : mW D h d A s H locs u) {i x : Nat} (hi : i < 24) (hdg : decode cc pc = .ok (.iastore, 1)) (kk : ∀ (u' : gU), u' = gup u 6 i x → ∀ (H1 : Heap) (locs1 : List Loc), mW D h d A s H1 locs1 u' → W p l e R s m args below meth c H1 locs1 cells slots Q (F0 m (pc + 1) ls rest)) : W p l e R s m args below meth c H locs cells slots Q (F0 m pc ls (.int (nI x) :: .int (nI i) :: .ref (h 7) :: rest)) :=
  g_ist S hw 6 5 6 rfl rfl (by decide) rfl hi hdg (kk _ rfl)
end MW
end
section
/-! the words that each call asks, printed by gen/calls.py -/
set_option maxRecDepth 100000
theorem cw_X0_X0_attach {R : Room} {s : State} {args : Array Value} (hts : ∀ w ∈ lw_all, w.before args s = true) (hR : (rk 0).frames + 1 ≤ R.frames ∧ 8 + (3 + 11) + (rk 0).locals ≤ R.locals) : CallW R s args RX0 RX0 62 yX0_attach cX0_attach 3 none (ws_ yX0_attach cX0_attach 3 none) (rk 0) 0 0 1 :=
  cwV 1 hts (lw_V q96 q98 qs1 q19 q99) rfl rfl rfl (by decide +kernel) hR
theorem cw_X0_X0_combine {R : Room} {s : State} {args : Array Value} (hts : ∀ w ∈ lw_all, w.before args s = true) (hR : (rk 1).frames + 1 ≤ R.frames ∧ 8 + (9 + 11) + (rk 1).locals ≤ R.locals) : CallW R s args RX0 RX0 78 yX0_combine cX0_combine 9 none (ws_ yX0_combine cX0_combine 9 none) (rk 1) 0 0 2 :=
  cwV 2 hts (lw_V q130 q132 qs4 q19 q133) rfl rfl rfl (by decide +kernel) hR
theorem cw_X0_X0_complete {R : Room} {s : State} {args : Array Value} (hts : ∀ w ∈ lw_all, w.before args s = true) (hR : (rk 2).frames + 1 ≤ R.frames ∧ 8 + (1 + 11) + (rk 2).locals ≤ R.locals) : CallW R s args RX0 RX0 70 yX0_complete cX0_complete 1 (some .boolean) (ws_ yX0_complete cX0_complete 1 (some .boolean)) (rk 2) 0 0 0 :=
  cwV 0 hts (lw_V q125 q114 q115 q19 q116) rfl rfl rfl (by decide +kernel) hR
theorem cw_X0_X0_condition {R : Room} {s : State} {args : Array Value} (hts : ∀ w ∈ lw_all, w.before args s = true) (hR : (rk 1).frames + 1 ≤ R.frames ∧ 8 + (4 + 11) + (rk 1).locals ≤ R.locals) : CallW R s args RX0 RX0 81 yX0_condition cX0_condition 4 (some .boolean) (ws_ yX0_condition cX0_condition 4 (some .boolean)) (rk 1) 0 0 2 :=
  cwV 2 hts (lw_V q144 q146 qs6 q19 q147) rfl rfl rfl (by decide +kernel) hR
theorem cw_X0_X0_firstBegin {R : Room} {s : State} {args : Array Value} (hts : ∀ w ∈ lw_all, w.before args s = true) (hR : (rk 0).frames + 1 ≤ R.frames ∧ 8 + (4 + 11) + (rk 0).locals ≤ R.locals) : CallW R s args RX0 RX0 95 yX0_firstBegin cX0_firstBegin 4 (some .int) (ws_ yX0_firstBegin cX0_firstBegin 4 (some .int)) (rk 0) 0 0 2 :=
  cwV 2 hts (lw_V q148 q150 qs7 q19 q151) rfl rfl rfl (by decide +kernel) hR
theorem cw_X0_X0_goOn {R : Room} {s : State} {args : Array Value} (hts : ∀ w ∈ lw_all, w.before args s = true) (hR : (rk 0).frames + 1 ≤ R.frames ∧ 8 + (6 + 11) + (rk 0).locals ≤ R.locals) : CallW R s args RX0 RX0 91 yX0_goOn cX0_goOn 6 (some .int) (ws_ yX0_goOn cX0_goOn 6 (some .int)) (rk 0) 0 0 3 :=
  cwV 3 hts (lw_V q140 q142 qs5 q19 q143) rfl rfl rfl (by decide +kernel) hR
theorem cw_X0_X0_greatest {R : Room} {s : State} {args : Array Value} (hts : ∀ w ∈ lw_all, w.before args s = true) (hR : (rk 0).frames + 1 ≤ R.frames ∧ 8 + (2 + 11) + (rk 0).locals ≤ R.locals) : CallB R s args RX0 85 yX0_greatest cX0_greatest 2 (some .int) (ws_ yX0_greatest cX0_greatest 2 (some .int)) (rk 0) 0 0 1 ∧ (Cond.static yX0_greatest).before args s = true :=
  va_cwS 1 hts (lw_S q134 q135 q19 q136) rfl rfl rfl (by decide +kernel) hR
theorem cw_X0_X0_holds {R : Room} {s : State} {args : Array Value} (hts : ∀ w ∈ lw_all, w.before args s = true) (hR : (rk 4).frames + 1 ≤ R.frames ∧ 8 + (2 + 11) + (rk 4).locals ≤ R.locals) : CallW R s args RX0 RX0 102 yX0_holds cX0_holds 2 (some .boolean) (ws_ yX0_holds cX0_holds 2 (some .boolean)) (rk 4) 0 0 1 :=
  cwV 1 hts (lw_V q156 q118 q119 q19 q120) rfl rfl rfl (by decide +kernel) hR
theorem cw_X0_X0_isCondition {R : Room} {s : State} {args : Array Value} (hts : ∀ w ∈ lw_all, w.before args s = true) (hR : (rk 0).frames + 1 ≤ R.frames ∧ 8 + (1 + 11) + (rk 0).locals ≤ R.locals) : CallB R s args RX0 59 yX0_isCondition cX0_isCondition 1 (some .boolean) (ws_ yX0_isCondition cX0_isCondition 1 (some .boolean)) (rk 0) 0 0 1 ∧ (Cond.static yX0_isCondition).before args s = true :=
  va_cwS 1 hts (lw_S q106 q107 q19 q108) rfl rfl rfl (by decide +kernel) hR
theorem cw_X0_X0_isDocument {R : Room} {s : State} {args : Array Value} (hts : ∀ w ∈ lw_all, w.before args s = true) (hR : (rk 0).frames + 1 ≤ R.frames ∧ 8 + (1 + 11) + (rk 0).locals ≤ R.locals) : CallB R s args RX0 39 yX0_isDocument cX0_isDocument 1 (some .boolean) (ws_ yX0_isDocument cX0_isDocument 1 (some .boolean)) (rk 0) 0 0 1 ∧ (Cond.static yX0_isDocument).before args s = true :=
  va_cwS 1 hts (lw_S q70 q71 q19 q72) rfl rfl rfl (by decide +kernel) hR
theorem cw_X0_X0_isSpan {R : Room} {s : State} {args : Array Value} (hts : ∀ w ∈ lw_all, w.before args s = true) (hR : (rk 0).frames + 1 ≤ R.frames ∧ 8 + (1 + 11) + (rk 0).locals ≤ R.locals) : CallB R s args RX0 56 yX0_isSpan cX0_isSpan 1 (some .boolean) (ws_ yX0_isSpan cX0_isSpan 1 (some .boolean)) (rk 0) 0 0 1 ∧ (Cond.static yX0_isSpan).before args s = true :=
  va_cwS 1 hts (lw_S q103 q104 q19 q105) rfl rfl rfl (by decide +kernel) hR
theorem cw_X0_X0_isWord {R : Room} {s : State} {args : Array Value} (hts : ∀ w ∈ lw_all, w.before args s = true) (hR : (rk 0).frames + 1 ≤ R.frames ∧ 8 + (1 + 11) + (rk 0).locals ≤ R.locals) : CallB R s args RX0 43 yX0_isWord cX0_isWord 1 (some .boolean) (ws_ yX0_isWord cX0_isWord 1 (some .boolean)) (rk 0) 0 0 1 ∧ (Cond.static yX0_isWord).before args s = true :=
  va_cwS 1 hts (lw_S q73 q74 q19 q75) rfl rfl rfl (by decide +kernel) hR
theorem cw_X0_X0_ones {R : Room} {s : State} {args : Array Value} (hts : ∀ w ∈ lw_all, w.before args s = true) (hR : (rk 0).frames + 1 ≤ R.frames ∧ 8 + (3 + 11) + (rk 0).locals ≤ R.locals) : CallB R s args RX0 108 yX0_ones cX0_ones 3 (some .int) (ws_ yX0_ones cX0_ones 3 (some .int)) (rk 0) 0 0 1 ∧ (Cond.static yX0_ones).before args s = true :=
  va_cwS 1 hts (lw_S q165 q166 q19 q167) rfl rfl rfl (by decide +kernel) hR
theorem cw_X0_X0_read {R : Room} {s : State} {args : Array Value} (hts : ∀ w ∈ lw_all, w.before args s = true) (hR : (rk 1).frames + 1 ≤ R.frames ∧ 8 + (3 + 11) + (rk 1).locals ≤ R.locals) : CallW R s args RX0 RX0 46 yX0_read cX0_read 3 none (ws_ yX0_read cX0_read 3 none) (rk 1) 0 0 0 :=
  cwV 0 hts (lw_V q92 q94 qs0 q19 q95) rfl rfl rfl (by decide +kernel) hR
theorem cw_X0_X0_spanOf {R : Room} {s : State} {args : Array Value} (hts : ∀ w ∈ lw_all, w.before args s = true) (hR : (rk 4).frames + 1 ≤ R.frames ∧ 8 + (5 + 11) + (rk 4).locals ≤ R.locals) : CallW R s args RX0 RX0 105 yX0_spanOf cX0_spanOf 5 (some .int) (ws_ yX0_spanOf cX0_spanOf 5 (some .int)) (rk 4) 0 0 2 :=
  cwV 2 hts (lw_V q161 q163 qs8 q19 q164) rfl rfl rfl (by decide +kernel) hR
theorem cw_X0_X0_upTo {R : Room} {s : State} {args : Array Value} (hts : ∀ w ∈ lw_all, w.before args s = true) (hR : (rk 0).frames + 1 ≤ R.frames ∧ 8 + (1 + 11) + (rk 0).locals ≤ R.locals) : CallB R s args RX0 88 yX0_upTo cX0_upTo 1 (some .int) (ws_ yX0_upTo cX0_upTo 1 (some .int)) (rk 0) 0 0 1 ∧ (Cond.static yX0_upTo).before args s = true :=
  va_cwS 1 hts (lw_S q137 q138 q19 q139) rfl rfl rfl (by decide +kernel) hR
theorem cw_X0_X0_wants {R : Room} {s : State} {args : Array Value} (hts : ∀ w ∈ lw_all, w.before args s = true) (hR : (rk 0).frames + 1 ≤ R.frames ∧ 8 + (1 + 11) + (rk 0).locals ≤ R.locals) : CallB R s args RX0 66 yX0_wants cX0_wants 1 (some .int) (ws_ yX0_wants cX0_wants 1 (some .int)) (rk 0) 0 0 1 ∧ (Cond.static yX0_wants).before args s = true :=
  va_cwS 1 hts (lw_S q100 q101 q19 q102) rfl rfl rfl (by decide +kernel) hR
theorem cw_X0_X0_word {R : Room} {s : State} {args : Array Value} (hts : ∀ w ∈ lw_all, w.before args s = true) (hR : (rk 0).frames + 1 ≤ R.frames ∧ 8 + (4 + 11) + (rk 0).locals ≤ R.locals) : CallW R s args RX0 RX0 74 yX0_word cX0_word 4 none (ws_ yX0_word cX0_word 4 none) (rk 0) 0 0 2 :=
  cwV 2 hts (lw_V q126 q128 qs3 q19 q129) rfl rfl rfl (by decide +kernel) hR
theorem cw_X0_X0_work {R : Room} {s : State} {args : Array Value} (hts : ∀ w ∈ lw_all, w.before args s = true) (hR : (rk 3).frames + 1 ≤ R.frames ∧ 8 + (4 + 11) + (rk 3).locals ≤ R.locals) : CallW R s args RX0 RX0 99 yX0_work cX0_work 4 (some .boolean) (ws_ yX0_work cX0_work 4 (some .boolean)) (rk 3) 0 0 1 :=
  cwV 1 hts (lw_V q121 q123 qs2 q19 q124) rfl rfl rfl (by decide +kernel) hR
theorem cw_L_X0_ask {R : Room} {s : State} {args : Array Value} (hts : ∀ w ∈ lw_all, w.before args s = true) (hR : (rk 2).frames + 1 ≤ R.frames ∧ 8 + (5 + 11) + (rk 2).locals ≤ R.locals) : CallW R s args "PhraseIndexLaw" RX0 33 yX0_ask cX0_ask 5 (some .int) (ws_ yX0_ask cX0_ask 5 (some .int)) (rk 2) 0 0 1 :=
  cwV 1 hts (lw_V q88 q89 q90 q19 q91) rfl rfl rfl (by decide +kernel) hR
theorem cw_L_X0_begins {R : Room} {s : State} {args : Array Value} (hts : ∀ w ∈ lw_all, w.before args s = true) (hR : (rk 5).frames + 1 ≤ R.frames ∧ 8 + (5 + 11) + (rk 5).locals ≤ R.locals) : CallW R s args "PhraseIndexLaw" RX0 59 yX0_begins cX0_begins 5 (some .int) (ws_ yX0_begins cX0_begins 5 (some .int)) (rk 5) 0 0 3 :=
  cwV 3 hts (lw_V q168 q169 q170 q19 q171) rfl rfl rfl (by decide +kernel) hR
theorem cw_L_X0_change {R : Room} {s : State} {args : Array Value} (hts : ∀ w ∈ lw_all, w.before args s = true) (hR : (rk 1).frames + 1 ≤ R.frames ∧ 8 + (5 + 11) + (rk 1).locals ≤ R.locals) : CallW R s args "PhraseIndexLaw" RX0 18 yX0_change cX0_change 5 (some .boolean) (ws_ yX0_change cX0_change 5 (some .boolean)) (rk 1) 0 0 3 :=
  cwV 3 hts (lw_V q76 q77 q78 q19 q79) rfl rfl rfl (by decide +kernel) hR
theorem cw_L_X0_complete {R : Room} {s : State} {args : Array Value} (hts : ∀ w ∈ lw_all, w.before args s = true) (hR : (rk 2).frames + 1 ≤ R.frames ∧ 8 + (1 + 11) + (rk 2).locals ≤ R.locals) : CallW R s args "PhraseIndexLaw" RX0 42 yX0_complete cX0_complete 1 (some .boolean) (ws_ yX0_complete cX0_complete 1 (some .boolean)) (rk 2) 0 0 0 :=
  cwV 0 hts (lw_V q113 q114 q115 q19 q116) rfl rfl rfl (by decide +kernel) hR
theorem cw_L_X0_ends {R : Room} {s : State} {args : Array Value} (hts : ∀ w ∈ lw_all, w.before args s = true) (hR : (rk 5).frames + 1 ≤ R.frames ∧ 8 + (7 + 11) + (rk 5).locals ≤ R.locals) : CallW R s args "PhraseIndexLaw" RX0 64 yX0_ends cX0_ends 7 (some .int) (ws_ yX0_ends cX0_ends 7 (some .int)) (rk 5) 0 0 3 :=
  cwV 3 hts (lw_V q172 q173 q174 q19 q175) rfl rfl rfl (by decide +kernel) hR
theorem cw_L_X0_erase {R : Room} {s : State} {args : Array Value} (hts : ∀ w ∈ lw_all, w.before args s = true) (hR : (rk 1).frames + 1 ≤ R.frames ∧ 8 + (3 + 11) + (rk 1).locals ≤ R.locals) : CallW R s args "PhraseIndexLaw" RX0 23 yX0_erase cX0_erase 3 (some .boolean) (ws_ yX0_erase cX0_erase 3 (some .boolean)) (rk 1) 0 0 1 :=
  cwV 1 hts (lw_V q80 q81 q82 q19 q83) rfl rfl rfl (by decide +kernel) hR
theorem cw_L_X0_frequency {R : Room} {s : State} {args : Array Value} (hts : ∀ w ∈ lw_all, w.before args s = true) (hR : (rk 1).frames + 1 ≤ R.frames ∧ 8 + (4 + 11) + (rk 1).locals ≤ R.locals) : CallW R s args "PhraseIndexLaw" RX0 72 yX0_frequency cX0_frequency 4 (some .int) (ws_ yX0_frequency cX0_frequency 4 (some .int)) (rk 1) 0 0 1 :=
  cwV 1 hts (lw_V q180 q181 q182 q19 q183) rfl rfl rfl (by decide +kernel) hR
theorem cw_L_X0_hasTokens {R : Room} {s : State} {args : Array Value} (hts : ∀ w ∈ lw_all, w.before args s = true) (hR : (rk 0).frames + 1 ≤ R.frames ∧ 8 + (3 + 11) + (rk 0).locals ≤ R.locals) : CallW R s args "PhraseIndexLaw" RX0 76 yX0_hasTokens cX0_hasTokens 3 (some .int) (ws_ yX0_hasTokens cX0_hasTokens 3 (some .int)) (rk 0) 0 0 0 :=
  cwV 0 hts (lw_V q184 q185 q186 q19 q187) rfl rfl rfl (by decide +kernel) hR
theorem cw_L_X0_having {R : Room} {s : State} {args : Array Value} (hts : ∀ w ∈ lw_all, w.before args s = true) (hR : (rk 1).frames + 1 ≤ R.frames ∧ 8 + (4 + 11) + (rk 1).locals ≤ R.locals) : CallW R s args "PhraseIndexLaw" RX0 68 yX0_having cX0_having 4 (some .int) (ws_ yX0_having cX0_having 4 (some .int)) (rk 1) 0 0 1 :=
  cwV 1 hts (lw_V q176 q177 q178 q19 q179) rfl rfl rfl (by decide +kernel) hR
theorem cw_L_X0_holds {R : Room} {s : State} {args : Array Value} (hts : ∀ w ∈ lw_all, w.before args s = true) (hR : (rk 4).frames + 1 ≤ R.frames ∧ 8 + (2 + 11) + (rk 4).locals ≤ R.locals) : CallW R s args "PhraseIndexLaw" RX0 47 yX0_holds cX0_holds 2 (some .boolean) (ws_ yX0_holds cX0_holds 2 (some .boolean)) (rk 4) 0 0 1 :=
  cwV 1 hts (lw_V q117 q118 q119 q19 q120) rfl rfl rfl (by decide +kernel) hR
theorem cw_L_X0_length {R : Room} {s : State} {args : Array Value} (hts : ∀ w ∈ lw_all, w.before args s = true) (hR : (rk 1).frames + 1 ≤ R.frames ∧ 8 + (2 + 11) + (rk 1).locals ≤ R.locals) : CallW R s args "PhraseIndexLaw" RX0 28 yX0_length cX0_length 2 (some .int) (ws_ yX0_length cX0_length 2 (some .int)) (rk 1) 0 0 1 :=
  cwV 1 hts (lw_V q84 q85 q86 q19 q87) rfl rfl rfl (by decide +kernel) hR
theorem cw_L_X0_matching {R : Room} {s : State} {args : Array Value} (hts : ∀ w ∈ lw_all, w.before args s = true) (hR : (rk 5).frames + 1 ≤ R.frames ∧ 8 + (3 + 11) + (rk 5).locals ≤ R.locals) : CallW R s args "PhraseIndexLaw" RX0 51 yX0_matching cX0_matching 3 (some .int) (ws_ yX0_matching cX0_matching 3 (some .int)) (rk 5) 0 0 0 :=
  cwV 0 hts (lw_V q152 q153 q154 q19 q155) rfl rfl rfl (by decide +kernel) hR
theorem cw_L_X0_spans {R : Room} {s : State} {args : Array Value} (hts : ∀ w ∈ lw_all, w.before args s = true) (hR : (rk 5).frames + 1 ≤ R.frames ∧ 8 + (6 + 11) + (rk 5).locals ≤ R.locals) : CallW R s args "PhraseIndexLaw" RX0 55 yX0_spans cX0_spans 6 (some .int) (ws_ yX0_spans cX0_spans 6 (some .int)) (rk 5) 0 0 2 :=
  cwV 2 hts (lw_V q157 q158 q159 q19 q160) rfl rfl rfl (by decide +kernel) hR
theorem cw_L_X0_unask {R : Room} {s : State} {args : Array Value} (hts : ∀ w ∈ lw_all, w.before args s = true) (hR : (rk 0).frames + 1 ≤ R.frames ∧ 8 + (1 + 11) + (rk 0).locals ≤ R.locals) : CallW R s args "PhraseIndexLaw" RX0 37 yX0_unask cX0_unask 1 (some .int) (ws_ yX0_unask cX0_unask 1 (some .int)) (rk 0) 0 0 0 :=
  cwV 0 hts (lw_V q109 q110 q111 q19 q112) rfl rfl rfl (by decide +kernel) hR
theorem cw_L_X0_write {R : Room} {s : State} {args : Array Value} (hts : ∀ w ∈ lw_all, w.before args s = true) (hR : (rk 1).frames + 1 ≤ R.frames ∧ 8 + (4 + 11) + (rk 1).locals ≤ R.locals) : CallW R s args "PhraseIndexLaw" RX0 13 yX0_write cX0_write 4 (some .int) (ws_ yX0_write cX0_write 4 (some .int)) (rk 1) 0 0 2 :=
  cwV 2 hts (lw_V q66 q67 q68 q19 q69) rfl rfl rfl (by decide +kernel) hR
theorem cw_L_X1_ask {R : Room} {s : State} {args : Array Value} (hts : ∀ w ∈ lw_all, w.before args s = true) (hR : (rk 2).frames + 1 ≤ R.frames ∧ 8 + (5 + 11) + (rk 2).locals ≤ R.locals) : CallW R s args "PhraseIndexLaw" RX1 36 yX1_ask cX1_ask 5 (some .int) (ws_ yX1_ask cX1_ask 5 (some .int)) (rk 2) 0 0 1 :=
  cwV 1 hts (lw_V q236 q237 q238 q20 q239) rfl rfl rfl (by decide +kernel) hR
theorem cw_L_X1_begins {R : Room} {s : State} {args : Array Value} (hts : ∀ w ∈ lw_all, w.before args s = true) (hR : (rk 4).frames + 1 ≤ R.frames ∧ 8 + (6 + 11) + (rk 4).locals ≤ R.locals) : CallW R s args "PhraseIndexLaw" RX1 63 yX1_begins cX1_begins 6 (some .int) (ws_ yX1_begins cX1_begins 6 (some .int)) (rk 4) 0 0 3 :=
  cwV 3 hts (lw_V q294 q295 q296 q20 q297) rfl rfl rfl (by decide +kernel) hR
theorem cw_L_X1_change {R : Room} {s : State} {args : Array Value} (hts : ∀ w ∈ lw_all, w.before args s = true) (hR : (rk 1).frames + 1 ≤ R.frames ∧ 8 + (4 + 11) + (rk 1).locals ≤ R.locals) : CallW R s args "PhraseIndexLaw" RX1 22 yX1_change cX1_change 4 (some .boolean) (ws_ yX1_change cX1_change 4 (some .boolean)) (rk 1) 0 0 3 :=
  cwV 3 hts (lw_V q224 q225 q226 q20 q227) rfl rfl rfl (by decide +kernel) hR
theorem cw_L_X1_complete {R : Room} {s : State} {args : Array Value} (hts : ∀ w ∈ lw_all, w.before args s = true) (hR : (rk 2).frames + 1 ≤ R.frames ∧ 8 + (1 + 11) + (rk 2).locals ≤ R.locals) : CallW R s args "PhraseIndexLaw" RX1 46 yX1_complete cX1_complete 1 (some .boolean) (ws_ yX1_complete cX1_complete 1 (some .boolean)) (rk 2) 0 0 0 :=
  cwV 0 hts (lw_V q252 q253 q254 q20 q255) rfl rfl rfl (by decide +kernel) hR
theorem cw_L_X1_ends {R : Room} {s : State} {args : Array Value} (hts : ∀ w ∈ lw_all, w.before args s = true) (hR : (rk 4).frames + 1 ≤ R.frames ∧ 8 + (6 + 11) + (rk 4).locals ≤ R.locals) : CallW R s args "PhraseIndexLaw" RX1 67 yX1_ends cX1_ends 6 (some .int) (ws_ yX1_ends cX1_ends 6 (some .int)) (rk 4) 0 0 3 :=
  cwV 3 hts (lw_V q298 q299 q300 q20 q301) rfl rfl rfl (by decide +kernel) hR
theorem cw_L_X1_erase {R : Room} {s : State} {args : Array Value} (hts : ∀ w ∈ lw_all, w.before args s = true) (hR : (rk 1).frames + 1 ≤ R.frames ∧ 8 + (2 + 11) + (rk 1).locals ≤ R.locals) : CallW R s args "PhraseIndexLaw" RX1 27 yX1_erase cX1_erase 2 (some .boolean) (ws_ yX1_erase cX1_erase 2 (some .boolean)) (rk 1) 0 0 1 :=
  cwV 1 hts (lw_V q228 q229 q230 q20 q231) rfl rfl rfl (by decide +kernel) hR
theorem cw_L_X1_frequency {R : Room} {s : State} {args : Array Value} (hts : ∀ w ∈ lw_all, w.before args s = true) (hR : (rk 0).frames + 1 ≤ R.frames ∧ 8 + (4 + 11) + (rk 0).locals ≤ R.locals) : CallW R s args "PhraseIndexLaw" RX1 75 yX1_frequency cX1_frequency 4 (some .int) (ws_ yX1_frequency cX1_frequency 4 (some .int)) (rk 0) 0 0 1 :=
  cwV 1 hts (lw_V q306 q307 q308 q20 q309) rfl rfl rfl (by decide +kernel) hR
theorem cw_L_X1_hasTokens {R : Room} {s : State} {args : Array Value} (hts : ∀ w ∈ lw_all, w.before args s = true) (hR : (rk 0).frames + 1 ≤ R.frames ∧ 8 + (3 + 11) + (rk 0).locals ≤ R.locals) : CallW R s args "PhraseIndexLaw" RX1 79 yX1_hasTokens cX1_hasTokens 3 (some .int) (ws_ yX1_hasTokens cX1_hasTokens 3 (some .int)) (rk 0) 0 0 0 :=
  cwV 0 hts (lw_V q310 q311 q312 q20 q313) rfl rfl rfl (by decide +kernel) hR
theorem cw_L_X1_having {R : Room} {s : State} {args : Array Value} (hts : ∀ w ∈ lw_all, w.before args s = true) (hR : (rk 0).frames + 1 ≤ R.frames ∧ 8 + (4 + 11) + (rk 0).locals ≤ R.locals) : CallW R s args "PhraseIndexLaw" RX1 71 yX1_having cX1_having 4 (some .int) (ws_ yX1_having cX1_having 4 (some .int)) (rk 0) 0 0 1 :=
  cwV 1 hts (lw_V q302 q303 q304 q20 q305) rfl rfl rfl (by decide +kernel) hR
theorem cw_L_X1_holds {R : Room} {s : State} {args : Array Value} (hts : ∀ w ∈ lw_all, w.before args s = true) (hR : (rk 3).frames + 1 ≤ R.frames ∧ 8 + (2 + 11) + (rk 3).locals ≤ R.locals) : CallW R s args "PhraseIndexLaw" RX1 50 yX1_holds cX1_holds 2 (some .boolean) (ws_ yX1_holds cX1_holds 2 (some .boolean)) (rk 3) 0 0 1 :=
  cwV 1 hts (lw_V q256 q257 q258 q20 q259) rfl rfl rfl (by decide +kernel) hR
theorem cw_L_X1_length {R : Room} {s : State} {args : Array Value} (hts : ∀ w ∈ lw_all, w.before args s = true) (hR : (rk 1).frames + 1 ≤ R.frames ∧ 8 + (2 + 11) + (rk 1).locals ≤ R.locals) : CallW R s args "PhraseIndexLaw" RX1 32 yX1_length cX1_length 2 (some .int) (ws_ yX1_length cX1_length 2 (some .int)) (rk 1) 0 0 1 :=
  cwV 1 hts (lw_V q232 q233 q234 q20 q235) rfl rfl rfl (by decide +kernel) hR
theorem cw_L_X1_matching {R : Room} {s : State} {args : Array Value} (hts : ∀ w ∈ lw_all, w.before args s = true) (hR : (rk 4).frames + 1 ≤ R.frames ∧ 8 + (3 + 11) + (rk 4).locals ≤ R.locals) : CallW R s args "PhraseIndexLaw" RX1 54 yX1_matching cX1_matching 3 (some .int) (ws_ yX1_matching cX1_matching 3 (some .int)) (rk 4) 0 0 0 :=
  cwV 0 hts (lw_V q281 q282 q283 q20 q284) rfl rfl rfl (by decide +kernel) hR
theorem cw_L_X1_spans {R : Room} {s : State} {args : Array Value} (hts : ∀ w ∈ lw_all, w.before args s = true) (hR : (rk 4).frames + 1 ≤ R.frames ∧ 8 + (6 + 11) + (rk 4).locals ≤ R.locals) : CallW R s args "PhraseIndexLaw" RX1 58 yX1_spans cX1_spans 6 (some .int) (ws_ yX1_spans cX1_spans 6 (some .int)) (rk 4) 0 0 2 :=
  cwV 2 hts (lw_V q286 q287 q288 q20 q289) rfl rfl rfl (by decide +kernel) hR
theorem cw_L_X1_unask {R : Room} {s : State} {args : Array Value} (hts : ∀ w ∈ lw_all, w.before args s = true) (hR : (rk 0).frames + 1 ≤ R.frames ∧ 8 + (1 + 11) + (rk 0).locals ≤ R.locals) : CallW R s args "PhraseIndexLaw" RX1 41 yX1_unask cX1_unask 1 (some .int) (ws_ yX1_unask cX1_unask 1 (some .int)) (rk 0) 0 0 0 :=
  cwV 0 hts (lw_V q248 q249 q250 q20 q251) rfl rfl rfl (by decide +kernel) hR
theorem cw_L_X1_write {R : Room} {s : State} {args : Array Value} (hts : ∀ w ∈ lw_all, w.before args s = true) (hR : (rk 1).frames + 1 ≤ R.frames ∧ 8 + (3 + 11) + (rk 1).locals ≤ R.locals) : CallW R s args "PhraseIndexLaw" RX1 17 yX1_write cX1_write 3 (some .int) (ws_ yX1_write cX1_write 3 (some .int)) (rk 1) 0 0 2 :=
  cwV 2 hts (lw_V q216 q217 q218 q20 q219) rfl rfl rfl (by decide +kernel) hR
theorem cw_X1_X1_complete {R : Room} {s : State} {args : Array Value} (hts : ∀ w ∈ lw_all, w.before args s = true) (hR : (rk 2).frames + 1 ≤ R.frames ∧ 8 + (1 + 11) + (rk 2).locals ≤ R.locals) : CallW R s args RX1 RX1 59 yX1_complete cX1_complete 1 (some .boolean) (ws_ yX1_complete cX1_complete 1 (some .boolean)) (rk 2) 0 0 0 :=
  cwV 0 hts (lw_V q260 q253 q254 q20 q255) rfl rfl rfl (by decide +kernel) hR
theorem cw_X1_X1_document {R : Room} {s : State} {args : Array Value} (hts : ∀ w ∈ lw_all, w.before args s = true) (hR : (rk 0).frames + 1 ≤ R.frames ∧ 8 + (2 + 11) + (rk 0).locals ≤ R.locals) : CallW R s args RX1 RX1 28 yX1_document cX1_document 2 (some .boolean) (ws_ yX1_document cX1_document 2 (some .boolean)) (rk 0) 0 0 1 :=
  cwV 1 hts (lw_V q220 q222 qs9 q20 q223) rfl rfl rfl (by decide +kernel) hR
theorem cw_X1_X1_due {R : Room} {s : State} {args : Array Value} (hts : ∀ w ∈ lw_all, w.before args s = true) (hR : (rk 1).frames + 1 ≤ R.frames ∧ 8 + (5 + 11) + (rk 1).locals ≤ R.locals) : CallW R s args RX1 RX1 40 yX1_due cX1_due 5 (some .int) (ws_ yX1_due cX1_due 5 (some .int)) (rk 1) 0 0 0 :=
  cwV 0 hts (lw_V q240 q242 qs10 q20 q243) rfl rfl rfl (by decide +kernel) hR
theorem cw_X1_X1_find {R : Room} {s : State} {args : Array Value} (hts : ∀ w ∈ lw_all, w.before args s = true) (hR : (rk 3).frames + 1 ≤ R.frames ∧ 8 + (5 + 11) + (rk 3).locals ≤ R.locals) : CallW R s args RX1 RX1 70 yX1_find cX1_find 5 (some .int) (ws_ yX1_find cX1_find 5 (some .int)) (rk 3) 0 0 2 :=
  cwV 2 hts (lw_V q290 q292 qs17 q20 q293) rfl rfl rfl (by decide +kernel) hR
theorem cw_X1_X1_holds {R : Room} {s : State} {args : Array Value} (hts : ∀ w ∈ lw_all, w.before args s = true) (hR : (rk 3).frames + 1 ≤ R.frames ∧ 8 + (2 + 11) + (rk 3).locals ≤ R.locals) : CallW R s args RX1 RX1 67 yX1_holds cX1_holds 2 (some .boolean) (ws_ yX1_holds cX1_holds 2 (some .boolean)) (rk 3) 0 0 1 :=
  cwV 1 hts (lw_V q285 q257 q258 q20 q259) rfl rfl rfl (by decide +kernel) hR
theorem cw_X1_X1_parts {R : Room} {s : State} {args : Array Value} (hts : ∀ w ∈ lw_all, w.before args s = true) (hR : (rk 0).frames + 1 ≤ R.frames ∧ 8 + (2 + 11) + (rk 0).locals ≤ R.locals) : CallW R s args RX1 RX1 36 yX1_parts cX1_parts 2 (some .int) (ws_ yX1_parts cX1_parts 2 (some .int)) (rk 0) 0 0 1 :=
  cwV 1 hts (lw_V q244 q246 qs11 q20 q247) rfl rfl rfl (by decide +kernel) hR
theorem cw_X1_X1_some {R : Room} {s : State} {args : Array Value} (hts : ∀ w ∈ lw_all, w.before args s = true) (hR : (rk 0).frames + 1 ≤ R.frames ∧ 8 + (4 + 11) + (rk 0).locals ≤ R.locals) : CallW R s args RX1 RX1 52 yX1_some cX1_some 4 (some .boolean) (ws_ yX1_some cX1_some 4 (some .boolean)) (rk 0) 0 0 1 :=
  cwV 1 hts (lw_V q265 q267 qs13 q20 q268) rfl rfl rfl (by decide +kernel) hR
theorem cw_X1_X1_spansAt {R : Room} {s : State} {args : Array Value} (hts : ∀ w ∈ lw_all, w.before args s = true) (hR : (rk 1).frames + 1 ≤ R.frames ∧ 8 + (7 + 11) + (rk 1).locals ≤ R.locals) : CallW R s args RX1 RX1 55 yX1_spansAt cX1_spansAt 7 (some .int) (ws_ yX1_spansAt cX1_spansAt 7 (some .int)) (rk 1) 0 0 5 :=
  cwV 5 hts (lw_V q269 q271 qs14 q20 q272) rfl rfl rfl (by decide +kernel) hR
theorem cw_X1_X1_then {R : Room} {s : State} {args : Array Value} (hts : ∀ w ∈ lw_all, w.before args s = true) (hR : (rk 0).frames + 1 ≤ R.frames ∧ 8 + (6 + 11) + (rk 0).locals ≤ R.locals) : CallW R s args RX1 RX1 48 yX1_then cX1_then 6 (some .int) (ws_ yX1_then cX1_then 6 (some .int)) (rk 0) 0 0 3 :=
  cwV 3 hts (lw_V q277 q279 qs16 q20 q280) rfl rfl rfl (by decide +kernel) hR
theorem cw_X1_X1_within {R : Room} {s : State} {args : Array Value} (hts : ∀ w ∈ lw_all, w.before args s = true) (hR : (rk 0).frames + 1 ≤ R.frames ∧ 8 + (6 + 11) + (rk 0).locals ≤ R.locals) : CallW R s args RX1 RX1 44 yX1_within cX1_within 6 (some .int) (ws_ yX1_within cX1_within 6 (some .int)) (rk 0) 0 0 2 :=
  cwV 2 hts (lw_V q273 q275 qs15 q20 q276) rfl rfl rfl (by decide +kernel) hR
theorem cw_X1_X1_work {R : Room} {s : State} {args : Array Value} (hts : ∀ w ∈ lw_all, w.before args s = true) (hR : (rk 2).frames + 1 ≤ R.frames ∧ 8 + (11 + 11) + (rk 2).locals ≤ R.locals) : CallW R s args RX1 RX1 63 yX1_work cX1_work 11 none (ws_ yX1_work cX1_work 11 none) (rk 2) 0 0 1 :=
  cwV 1 hts (lw_V q261 q263 qs12 q20 q264) rfl rfl rfl (by decide +kernel) hR
end
section
/-! plain words of the index: no program in sight -/
set_option maxRecDepth 100000
def bN (p : Prop) [Decidable p] : Nat := if p then 1 else 0
theorem bN_2 (p : Prop) [Decidable p] : bN p < 2 := by unfold bN; split <;> omega
theorem bN_lt (p : Prop) [Decidable p] : bN p < 2 ^ 31 := by have := bN_2 p; omega
theorem bN_0 {p : Prop} [Decidable p] (h : bN p = 0) : ¬ p := by
  intro q; simp [bN, q] at h
theorem bN_1 {p : Prop} [Decidable p] (h : bN p ≠ 0) : p := by
  refine Classical.byContradiction fun q => h ?_
  simp [bN, q]
theorem bN_t {p : Prop} [Decidable p] (h : p) : bN p = 1 := if_pos h
theorem bN_f {p : Prop} [Decidable p] (h : ¬ p) : bN p = 0 := if_neg h
/-- an int as an index below N; N if it is none -/
def ix (N : Nat) (x : Int32) : Nat := if x < 0 then N else min x.toNatClampNeg N
theorem ix_neg {N : Nat} {x : Int32} (h : x < 0) : ix N x = N := if_pos h
theorem ix_nI {N j : Nat} (h : j < 2 ^ 31) : ix N (nI j) = min j N := by
  unfold ix; rw [if_neg (nI_pos h), nI_clamp h]
theorem ix_in {N j : Nat} (h : j < 2 ^ 31) (hj : j < N) : ix N (nI j) = j := by
  rw [ix_nI h]; omega
theorem ix_lt {N : Nat} {x : Int32} (h : ix N x < N) : ∃ j, j < N ∧ x = nI j ∧ j < 2 ^ 31 := by
  by_cases hx : x < 0
  · rw [ix_neg hx] at h; omega
  · obtain ⟨j, hj, rfl⟩ := nI_of hx
    rw [ix_nI hj] at h
    exact ⟨j, by omega, rfl, hj⟩
theorem ix_le (N : Nat) (x : Int32) : ix N x ≤ N := by
  unfold ix; split <;> omega
def ar (t : Nat) : Nat := if t < 12 then 0 else if 22 ≤ t then 1 else 2
def kd (t : Nat) : Nat := if 20 ≤ t ∧ t ≤ 22 then 1 else 2
theorem ar_le (t : Nat) : ar t ≤ 2 := by unfold ar; split; omega; split <;> omega
theorem kd_12 (t : Nat) : kd t = 1 ∨ kd t = 2 := by unfold kd; split; exact Or.inl rfl; exact Or.inr rfl
/-- how many parts are still wanted ahead of token k -/
def nd (t : Nat → Nat) : Nat → Nat
  | 0 => 1
  | k + 1 => nd t k - 1 + ar (t k)
/-- the kind of the part at height p ahead of token k: 1 a condition, 2 a span -/
def pl (t : Nat → Nat) : Nat → Nat → Nat
  | 0, _ => 1
  | k + 1, p => if nd t k - 1 ≤ p ∧ p < nd t k - 1 + ar (t k) then kd (t k) else pl t k p
/-- a query: a beginning of a well formed one -/
def qI (t : Nat → Nat) (n : Nat) : Prop := n ≤ 12 ∧ (∀ i, t i < 24) ∧ ∀ i, i < n → 0 < nd t i ∧ ((pl t i (nd t i - 1) = 1 ∧ 20 ≤ t i) ∨ (pl t i (nd t i - 1) = 2 ∧ t i ≤ 18))
/-- j is where the second part of token k begins -/
def isSec (t : Nat → Nat) (k j : Nat) : Prop := k + 1 < j ∧ nd t j = nd t k ∧ ∀ i, k < i → i < j → nd t k < nd t i
noncomputable def sec (t : Nat → Nat) (k : Nat) : Nat := Classical.epsilon (isSec t k)
theorem sec_eq {t : Nat → Nat} {k j : Nat} (h : isSec t k j) : sec t k = j := by
  have hs : isSec t k (sec t k) := Classical.epsilon_spec ⟨j, h⟩
  rcases Nat.lt_trichotomy (sec t k) j with q | q | q
  · have := h.2.2 _ (by have := hs.1; omega) q
    have := hs.2.1; omega
  · exact q
  · have := hs.2.2 _ (by have := h.1; omega) q
    have := h.2.1; omega
theorem nd_le {t : Nat → Nat} : ∀ k, nd t k ≤ k + 1
  | 0 => Nat.le_refl _
  | k + 1 => by
    have := nd_le (t := t) k
    have := ar_le (t k)
    show nd t k - 1 + ar (t k) ≤ _
    rcases Nat.eq_zero_or_pos (nd t k) with q | q
    · rw [q]
      cases k with
      | zero => simp [nd] at q
      | succ k => omega
    · omega
theorem pl_12 (t : Nat → Nat) : ∀ k p, pl t k p = 1 ∨ pl t k p = 2
  | 0, _ => Or.inl rfl
  | k + 1, p => by
    show (if _ then _ else _) = 1 ∨ (if _ then _ else _) = 2
    by_cases q : nd t k - 1 ≤ p ∧ p < nd t k - 1 + ar (t k)
    · rw [if_pos q]; exact kd_12 _
    · rw [if_neg q]; exact pl_12 t k p
theorem nd_s (t : Nat → Nat) (k : Nat) : nd t (k + 1) = nd t k - 1 + ar (t k) := rfl
theorem pl_s (t : Nat → Nat) (k p : Nat) : pl t (k + 1) p = if nd t k - 1 ≤ p ∧ p < nd t k - 1 + ar (t k) then kd (t k) else pl t k p := rfl
/-- bits -/
theorem bt_m (s e : Nat) : s >>> e &&& 1 = bN (s.testBit e = true) := by
  rw [Nat.and_one_is_mod, Nat.shiftRight_eq_div_pow, bN]
  rw [Nat.testBit_eq_decide_div_mod_eq]
  have := Nat.mod_two_eq_zero_or_one (s / 2 ^ e)
  rcases this with q | q <;> simp [q]
theorem bt_2 (s e : Nat) : s >>> e &&& 1 < 2 := by rw [bt_m]; exact bN_2 _
theorem bt_0 {s e : Nat} (h : s >>> e &&& 1 = 0) : s.testBit e = false := by
  rw [bt_m] at h; exact Bool.eq_false_iff.mpr (bN_0 h)
theorem bt_1 {s e : Nat} (h : s >>> e &&& 1 ≠ 0) : s.testBit e = true := by
  rw [bt_m] at h; exact bN_1 h
theorem bt_n1 {s e : Nat} (h : s >>> e &&& 1 ≠ 1) : s.testBit e = false := bt_0 (by have := bt_2 s e; omega)
theorem bt_e1 {s e : Nat} (h : s >>> e &&& 1 = 1) : s.testBit e = true := bt_1 (by omega)
/-- what comes behind the ends of a set, at a distance: the places below m are looked at -/
def thf (fr : Nat) (row : Nat → Nat) (ds : Nat) : Nat → Nat
  | 0 => 0
  | e + 1 => if fr.testBit e = true then thf fr row ds e ||| row (e + ds) else thf fr row ds e
/-- one more than the greatest of a set below m, or 0 -/
def gtf (s : Nat) : Nat → Nat
  | 0 => 0
  | e + 1 => if s.testBit e = true then e + 1 else gtf s e
/-- the greatest of them over the rows below c -/
def mxf (row : Nat → Nat) : Nat → Nat
  | 0 => 0
  | c + 1 => max (mxf row c) (gtf (row c) 24)
def onf (s : Nat) : Nat → Nat
  | 0 => 0
  | e + 1 => onf s e + (s >>> e &&& 1)
def spf (row : Nat → Nat) : Nat → Nat
  | 0 => 0
  | b + 1 => spf row b + onf (row b) 24
def htf (t : Nat → Nat) : Nat → Nat
  | 0 => 0
  | i + 1 => htf t i + bN (t i = 23)
/-- is there any in the rows below m -/
def anf (row : Nat → Nat) : Nat → Nat
  | 0 => 0
  | b + 1 => anf row b ||| row b
/-- the row of token k, its parts' rows being E (k + 1) and E s2 -/
def rwv (z x : Nat → Nat) (dd : Nat) (t : Nat → Nat) (E : Nat → Nat → Nat) (k s2 b : Nat) : Nat :=
  if t k < 12 then (if b < z dd ∧ x (24 * dd + b) = t k then 1 <<< b else 0)
  else if t k = 12 then E (k + 1) b ||| E s2 b
  else if t k = 18 then E (k + 1) b &&& ((1 <<< mxf (E s2) (b + 1)) - 1)
  else if t k < 18 then thf (E (k + 1) b) (E s2) (t k - 13) (24 - (t k - 13))
  else if t k = 20 then bN (E (k + 1) 0 = 1 ∧ E s2 0 = 1)
  else if t k = 21 then bN (E (k + 1) 0 = 1 ∨ E s2 0 = 1)
  else if t k = 22 then bN (¬ E (k + 1) 0 = 1)
  else bN (anf (E (k + 1)) 24 ≠ 0)
/-- the rows of the last j of n tokens -/
noncomputable def EV (z x : Nat → Nat) (dd : Nat) (t : Nat → Nat) (n : Nat) : Nat → Nat → Nat → Nat
  | 0 => fun _ _ => 0
  | j + 1 => fun a => if a = n - 1 - j then rwv z x dd t (EV z x dd t n j) (n - 1 - j) (sec t (n - 1 - j)) else EV z x dd t n j a
theorem EV_new (z x : Nat → Nat) (dd : Nat) (t : Nat → Nat) (n j : Nat) : EV z x dd t n (j + 1) (n - 1 - j) = rwv z x dd t (EV z x dd t n j) (n - 1 - j) (sec t (n - 1 - j)) := by
  show (if _ then _ else _) = _
  rw [if_pos rfl]
theorem EV_old (z x : Nat → Nat) (dd : Nat) (t : Nat → Nat) (n j a : Nat) (h : a ≠ n - 1 - j) : EV z x dd t n (j + 1) a = EV z x dd t n j a := by
  show (if _ then _ else _) = _
  rw [if_neg h]
theorem thf_lt {N fr ds : Nat} {row : Nat → Nat} (h : ∀ b, row b < 2 ^ N) : ∀ m, thf fr row ds m < 2 ^ N
  | 0 => Nat.two_pow_pos N
  | m + 1 => by
    show (if _ then _ else _) < _
    split
    · exact Nat.or_lt_two_pow (thf_lt h m) (h _)
    · exact thf_lt h m
theorem gtf_le (s : Nat) : ∀ m, gtf s m ≤ m
  | 0 => Nat.le_refl _
  | m + 1 => by
    show (if _ then _ else _) ≤ _
    split
    · exact Nat.le_refl _
    · exact Nat.le_succ_of_le (gtf_le s m)
theorem mxf_le (row : Nat → Nat) : ∀ c, mxf row c ≤ 24
  | 0 => Nat.zero_le _
  | c + 1 => Nat.max_le.mpr ⟨mxf_le row c, gtf_le _ 24⟩
theorem onf_le (s : Nat) : ∀ m, onf s m ≤ m
  | 0 => Nat.le_refl _
  | m + 1 => by
    have := onf_le s m
    have := bt_2 s m
    show onf s m + _ ≤ _
    omega
theorem spf_le (row : Nat → Nat) : ∀ m, spf row m ≤ 24 * m
  | 0 => Nat.le_refl _
  | m + 1 => by
    have := spf_le row m
    have := onf_le (row m) 24
    show spf row m + _ ≤ _
    omega
theorem htf_le (t : Nat → Nat) : ∀ m, htf t m ≤ m
  | 0 => Nat.le_refl _
  | m + 1 => by
    have := htf_le t m
    have := bN_2 (t m = 23)
    show htf t m + _ ≤ _
    omega
theorem anf_lt {N : Nat} {row : Nat → Nat} (h : ∀ b, row b < 2 ^ N) : ∀ m, anf row m < 2 ^ N
  | 0 => Nat.two_pow_pos N
  | m + 1 => Nat.or_lt_two_pow (anf_lt h m) (h m)
theorem sh1_lt {b N : Nat} (h : b < N) : 1 <<< b < 2 ^ N := by
  rw [Nat.one_shiftLeft]; exact Nat.pow_lt_pow_right (by omega) h
theorem rwv_lt {z x : Nat → Nat} {dd : Nat} {t : Nat → Nat} {E : Nat → Nat → Nat} {k s2 b : Nat} (hz : z dd ≤ 24) (h : ∀ a b, E a b < 2 ^ 24) : rwv z x dd t E k s2 b < 2 ^ 24 := by
  have b1 : ∀ (p : Prop) [Decidable p], bN p < 2 ^ 24 := fun p _ => by have := bN_2 p; omega
  unfold rwv
  split
  · split
    · rename_i hb
      exact sh1_lt (by omega)
    · decide
  · split
    · exact Nat.or_lt_two_pow (h _ _) (h _ _)
    · split
      · exact Nat.and_lt_two_pow _ (by
          have h2 := mxf_le (E s2) (b + 1)
          rw [Nat.one_shiftLeft]
          have h3 : 2 ^ mxf (E s2) (b + 1) ≤ 2 ^ 24 := Nat.pow_le_pow_right (by omega) h2
          have h4 := Nat.two_pow_pos (mxf (E s2) (b + 1))
          omega)
      · split
        · exact thf_lt (fun b => h _ b) _
        · split
          · exact b1 _
          · split
            · exact b1 _
            · split
              · exact b1 _
              · exact b1 _
theorem EV_lt {z x : Nat → Nat} {dd : Nat} {t : Nat → Nat} {n : Nat} (hz : z dd ≤ 24) : ∀ j a b, EV z x dd t n j a b < 2 ^ 24
  | 0, _, _ => by show 0 < _; decide
  | j + 1, a, b => by
    by_cases q : a = n - 1 - j
    · subst q
      rw [EV_new]
      exact rwv_lt hz (EV_lt hz j)
    · rw [EV_old _ _ _ _ _ _ _ q]
      exact EV_lt hz j a b
end
section
/-! the leaves of PhraseIndex, printed by gen/xleaf.py -/
set_option maxRecDepth 100000
set_option maxHeartbeats 4000000 in
theorem mX_isDocument (l : Launch) (D : va_G) (h : Nat → Nat) (d : Nat → ClassId) (u : gU) (x : Int32) : gMi l yX0_isDocument cX0_isDocument 1 .boolean (rk 0) D (xL h d) (xT d) [.int x] u (fun r u' => r = nI (bN (ix 6 x < 6)) ∧ u = u') := by
  refine gMi_of (by decide) (Nat.le_of_ble_eq_true rfl) ?_
  intro p e s m args below meth c A Q ls S hw hl hret
  have S : CallFix p m c cX0_isDocument 1 s args lw_all RX0 := S
  have hl : lv_has ls 1 [(0, .int x)] := hl
  by_cases hx : x < 0
  · refine lv_iload_n S.1 S.2.1 dX0_isDocument_0 rfl (lv_at hl 0 rfl) ?_
    refine lv_if_lt (tgt := 14) S.1 S.2.1 dX0_isDocument_1 (by decide) (fun c1 => ?_) (fun c1 => ?_)
    · refine lv_iconst (v := nI 0) S.1 S.2.1 dX0_isDocument_14 (by decide) ?_
      exact hret _ _ dX0_isDocument_15 (nI_zn _ (by decide)) (⟨by rw [ix_neg hx]; decide, rfl⟩) hw
    · exact absurd hx c1
  · obtain ⟨j, hj, rfl⟩ := nI_of hx
    refine lv_iload_n S.1 S.2.1 dX0_isDocument_0 rfl (lv_at hl 0 rfl) ?_
    refine n_if_lt (tgt := 14) S (by omega) dX0_isDocument_1 (by decide) ?_
    refine lv_iload_n S.1 S.2.1 dX0_isDocument_4 rfl (lv_at hl 0 rfl) ?_
    refine lv_bipush (v := nI 6) S.1 S.2.1 dX0_isDocument_5 (by decide) ?_
    refine n_icmp_ge (tgt := 14) S (by omega) (by omega) dX0_isDocument_7 (by decide) (fun c7 => ?_) (fun c7 => ?_)
    · refine lv_iconst (v := nI 0) S.1 S.2.1 dX0_isDocument_14 (by decide) ?_
      exact hret _ _ dX0_isDocument_15 (nI_zn _ (by decide)) (⟨congrArg nI (by rw [ix_nI hj]; exact (bN_f (by omega)).symm), rfl⟩) hw
    · refine lv_iconst (v := nI 1) S.1 S.2.1 dX0_isDocument_10 (by decide) ?_
      refine lv_goto (tgt := 15) S.1 S.2.1 dX0_isDocument_11 (by decide) ?_
      exact hret _ _ dX0_isDocument_15 (nI_zn _ (by decide)) (⟨congrArg nI (by rw [ix_nI hj]; exact (bN_t (by omega)).symm), rfl⟩) hw
set_option maxHeartbeats 4000000 in
theorem mX_isWord (l : Launch) (D : va_G) (h : Nat → Nat) (d : Nat → ClassId) (u : gU) (x : Int32) : gMi l yX0_isWord cX0_isWord 1 .boolean (rk 0) D (xL h d) (xT d) [.int x] u (fun r u' => r = nI (bN (ix 12 x < 12)) ∧ u = u') := by
  refine gMi_of (by decide) (Nat.le_of_ble_eq_true rfl) ?_
  intro p e s m args below meth c A Q ls S hw hl hret
  have S : CallFix p m c cX0_isWord 1 s args lw_all RX0 := S
  have hl : lv_has ls 1 [(0, .int x)] := hl
  by_cases hx : x < 0
  · refine lv_iload_n S.1 S.2.1 dX0_isWord_0 rfl (lv_at hl 0 rfl) ?_
    refine lv_if_lt (tgt := 14) S.1 S.2.1 dX0_isWord_1 (by decide) (fun c1 => ?_) (fun c1 => ?_)
    · refine lv_iconst (v := nI 0) S.1 S.2.1 dX0_isWord_14 (by decide) ?_
      exact hret _ _ dX0_isWord_15 (nI_zn _ (by decide)) (⟨by rw [ix_neg hx]; decide, rfl⟩) hw
    · exact absurd hx c1
  · obtain ⟨j, hj, rfl⟩ := nI_of hx
    refine lv_iload_n S.1 S.2.1 dX0_isWord_0 rfl (lv_at hl 0 rfl) ?_
    refine n_if_lt (tgt := 14) S (by omega) dX0_isWord_1 (by decide) ?_
    refine lv_iload_n S.1 S.2.1 dX0_isWord_4 rfl (lv_at hl 0 rfl) ?_
    refine lv_bipush (v := nI 12) S.1 S.2.1 dX0_isWord_5 (by decide) ?_
    refine n_icmp_ge (tgt := 14) S (by omega) (by omega) dX0_isWord_7 (by decide) (fun c7 => ?_) (fun c7 => ?_)
    · refine lv_iconst (v := nI 0) S.1 S.2.1 dX0_isWord_14 (by decide) ?_
      exact hret _ _ dX0_isWord_15 (nI_zn _ (by decide)) (⟨congrArg nI (by rw [ix_nI hj]; exact (bN_f (by omega)).symm), rfl⟩) hw
    · refine lv_iconst (v := nI 1) S.1 S.2.1 dX0_isWord_10 (by decide) ?_
      refine lv_goto (tgt := 15) S.1 S.2.1 dX0_isWord_11 (by decide) ?_
      exact hret _ _ dX0_isWord_15 (nI_zn _ (by decide)) (⟨congrArg nI (by rw [ix_nI hj]; exact (bN_t (by omega)).symm), rfl⟩) hw
set_option maxHeartbeats 4000000 in
theorem mX_isSpan (l : Launch) (D : va_G) (h : Nat → Nat) (d : Nat → ClassId) (u : gU) (x : Int32) : gMi l yX0_isSpan cX0_isSpan 1 .boolean (rk 0) D (xL h d) (xT d) [.int x] u (fun r u' => r = nI (bN (ix 24 x ≤ 18)) ∧ u = u') := by
  refine gMi_of (by decide) (Nat.le_of_ble_eq_true rfl) ?_
  intro p e s m args below meth c A Q ls S hw hl hret
  have S : CallFix p m c cX0_isSpan 1 s args lw_all RX0 := S
  have hl : lv_has ls 1 [(0, .int x)] := hl
  by_cases hx : x < 0
  · refine lv_iload_n S.1 S.2.1 dX0_isSpan_0 rfl (lv_at hl 0 rfl) ?_
    refine lv_if_lt (tgt := 14) S.1 S.2.1 dX0_isSpan_1 (by decide) (fun c1 => ?_) (fun c1 => ?_)
    · refine lv_iconst (v := nI 0) S.1 S.2.1 dX0_isSpan_14 (by decide) ?_
      exact hret _ _ dX0_isSpan_15 (nI_zn _ (by decide)) (⟨by rw [ix_neg hx]; decide, rfl⟩) hw
    · exact absurd hx c1
  · obtain ⟨j, hj, rfl⟩ := nI_of hx
    refine lv_iload_n S.1 S.2.1 dX0_isSpan_0 rfl (lv_at hl 0 rfl) ?_
    refine n_if_lt (tgt := 14) S (by omega) dX0_isSpan_1 (by decide) ?_
    refine lv_iload_n S.1 S.2.1 dX0_isSpan_4 rfl (lv_at hl 0 rfl) ?_
    refine lv_bipush (v := nI 18) S.1 S.2.1 dX0_isSpan_5 (by decide) ?_
    refine n_icmp_gt (tgt := 14) S (by omega) (by omega) dX0_isSpan_7 (by decide) (fun c7 => ?_) (fun c7 => ?_)
    · refine lv_iconst (v := nI 0) S.1 S.2.1 dX0_isSpan_14 (by decide) ?_
      exact hret _ _ dX0_isSpan_15 (nI_zn _ (by decide)) (⟨congrArg nI (by rw [ix_nI hj]; exact (bN_f (by omega)).symm), rfl⟩) hw
    · refine lv_iconst (v := nI 1) S.1 S.2.1 dX0_isSpan_10 (by decide) ?_
      refine lv_goto (tgt := 15) S.1 S.2.1 dX0_isSpan_11 (by decide) ?_
      exact hret _ _ dX0_isSpan_15 (nI_zn _ (by decide)) (⟨congrArg nI (by rw [ix_nI hj]; exact (bN_t (by omega)).symm), rfl⟩) hw
set_option maxHeartbeats 4000000 in
theorem mX_isCondition (l : Launch) (D : va_G) (h : Nat → Nat) (d : Nat → ClassId) (u : gU) (x : Int32) : gMi l yX0_isCondition cX0_isCondition 1 .boolean (rk 0) D (xL h d) (xT d) [.int x] u (fun r u' => r = nI (bN (20 ≤ ix 24 x ∧ ix 24 x ≤ 23)) ∧ u = u') := by
  refine gMi_of (by decide) (Nat.le_of_ble_eq_true rfl) ?_
  intro p e s m args below meth c A Q ls S hw hl hret
  have S : CallFix p m c cX0_isCondition 1 s args lw_all RX0 := S
  have hl : lv_has ls 1 [(0, .int x)] := hl
  by_cases hx : x < 0
  · refine lv_iload_n S.1 S.2.1 dX0_isCondition_0 rfl (lv_at hl 0 rfl) ?_
    refine lv_bipush (v := nI 20) S.1 S.2.1 dX0_isCondition_1 (by decide) ?_
    refine lv_icmp_lt (tgt := 16) S.1 S.2.1 dX0_isCondition_3 (by decide) (fun c3 => ?_) (fun c3 => ?_)
    · refine lv_iconst (v := nI 0) S.1 S.2.1 dX0_isCondition_16 (by decide) ?_
      exact hret _ _ dX0_isCondition_17 (nI_zn _ (by decide)) (⟨by rw [ix_neg hx]; decide, rfl⟩) hw
    · exact absurd (Int32.lt_of_lt_of_le hx (by decide)) c3
  · obtain ⟨j, hj, rfl⟩ := nI_of hx
    refine lv_iload_n S.1 S.2.1 dX0_isCondition_0 rfl (lv_at hl 0 rfl) ?_
    refine lv_bipush (v := nI 20) S.1 S.2.1 dX0_isCondition_1 (by decide) ?_
    refine n_icmp_lt (tgt := 16) S (by omega) (by omega) dX0_isCondition_3 (by decide) (fun c3 => ?_) (fun c3 => ?_)
    · refine lv_iconst (v := nI 0) S.1 S.2.1 dX0_isCondition_16 (by decide) ?_
      exact hret _ _ dX0_isCondition_17 (nI_zn _ (by decide)) (⟨congrArg nI (by rw [ix_nI hj]; exact (bN_f (by omega)).symm), rfl⟩) hw
    · refine lv_iload_n S.1 S.2.1 dX0_isCondition_6 rfl (lv_at hl 0 rfl) ?_
      refine lv_bipush (v := nI 23) S.1 S.2.1 dX0_isCondition_7 (by decide) ?_
      refine n_icmp_gt (tgt := 16) S (by omega) (by omega) dX0_isCondition_9 (by decide) (fun c9 => ?_) (fun c9 => ?_)
      · refine lv_iconst (v := nI 0) S.1 S.2.1 dX0_isCondition_16 (by decide) ?_
        exact hret _ _ dX0_isCondition_17 (nI_zn _ (by decide)) (⟨congrArg nI (by rw [ix_nI hj]; exact (bN_f (by omega)).symm), rfl⟩) hw
      · refine lv_iconst (v := nI 1) S.1 S.2.1 dX0_isCondition_12 (by decide) ?_
        refine lv_goto (tgt := 17) S.1 S.2.1 dX0_isCondition_13 (by decide) ?_
        exact hret _ _ dX0_isCondition_17 (nI_zn _ (by decide)) (⟨congrArg nI (by rw [ix_nI hj]; exact (bN_t (by omega)).symm), rfl⟩) hw
set_option maxHeartbeats 4000000 in
theorem mX_wants (l : Launch) (D : va_G) (h : Nat → Nat) (d : Nat → ClassId) (u : gU) (t : Nat) (ht : t < 24) : gMi l yX0_wants cX0_wants 1 .int (rk 0) D (xL h d) (xT d) [.int (nI t)] u (fun r u' => r = nI (ar t) ∧ u = u') := by
  refine gMi_of (by decide) (Nat.le_of_ble_eq_true rfl) ?_
  intro p e s m args below meth c A Q ls S hw hl hret
  have S : CallFix p m c cX0_wants 1 s args lw_all RX0 := S
  have hl : lv_has ls 1 [(0, .int (nI t))] := hl
  refine lv_iload_n S.1 S.2.1 dX0_wants_0 rfl (lv_at hl 0 rfl) ?_
  refine lv_bipush (v := nI 12) S.1 S.2.1 dX0_wants_1 (by decide) ?_
  refine n_icmp_ge (tgt := 8) S (by omega) (by omega) dX0_wants_3 (by decide) (fun c3 => ?_) (fun c3 => ?_)
  · refine lv_iload_n S.1 S.2.1 dX0_wants_8 rfl (lv_at hl 0 rfl) ?_
    refine lv_bipush (v := nI 22) S.1 S.2.1 dX0_wants_9 (by decide) ?_
    refine n_icmp_eq (tgt := 20) S (by omega) (by omega) dX0_wants_11 (by decide) (fun c11 => ?_) (fun c11 => ?_)
    · refine lv_iconst (v := nI 1) S.1 S.2.1 dX0_wants_20 (by decide) ?_
      refine lv_goto (tgt := 25) S.1 S.2.1 dX0_wants_21 (by decide) ?_
      exact hret _ _ dX0_wants_25 rfl (⟨congrArg nI (by unfold ar; rw [if_neg (by omega), if_pos (by omega)]), rfl⟩) hw
    · refine lv_iload_n S.1 S.2.1 dX0_wants_14 rfl (lv_at hl 0 rfl) ?_
      refine lv_bipush (v := nI 23) S.1 S.2.1 dX0_wants_15 (by decide) ?_
      refine n_icmp_ne (tgt := 24) S (by omega) (by omega) dX0_wants_17 (by decide) (fun c17 => ?_) (fun c17 => ?_)
      · refine lv_iconst (v := nI 2) S.1 S.2.1 dX0_wants_24 (by decide) ?_
        exact hret _ _ dX0_wants_25 rfl (⟨congrArg nI (by unfold ar; rw [if_neg (by omega), if_neg (by omega)]), rfl⟩) hw
      · refine lv_iconst (v := nI 1) S.1 S.2.1 dX0_wants_20 (by decide) ?_
        refine lv_goto (tgt := 25) S.1 S.2.1 dX0_wants_21 (by decide) ?_
        exact hret _ _ dX0_wants_25 rfl (⟨congrArg nI (by unfold ar; rw [if_neg (by omega), if_pos (by omega)]), rfl⟩) hw
  · refine lv_iconst (v := nI 0) S.1 S.2.1 dX0_wants_6 (by decide) ?_
    exact hret _ _ dX0_wants_7 rfl (⟨congrArg nI (by unfold ar; rw [if_pos (by omega)]), rfl⟩) hw
set_option maxHeartbeats 4000000 in
theorem mX_upTo (l : Launch) (D : va_G) (h : Nat → Nat) (d : Nat → ClassId) (u : gU) (f : Nat) (hf : f ≤ 24) : gMi l yX0_upTo cX0_upTo 1 .int (rk 0) D (xL h d) (xT d) [.int (pI f)] u (fun r u' => r = nI ((1 <<< f) - 1) ∧ u = u') := by
  refine gMi_of (by decide) (Nat.le_of_ble_eq_true rfl) ?_
  intro p e s m args below meth c A Q ls S hw hl hret
  have S : CallFix p m c cX0_upTo 1 s args lw_all RX0 := S
  have hl : lv_has ls 1 [(0, .int (pI f))] := hl
  refine lv_iconst (v := nI 1) S.1 S.2.1 dX0_upTo_0 (by decide) ?_
  refine lv_iload_n S.1 S.2.1 dX0_upTo_1 rfl (lv_at hl 0 rfl) ?_
  refine lv_iconst (v := nI 1) S.1 S.2.1 dX0_upTo_2 (by decide) ?_
  refine p_inc S dX0_upTo_3 ?_
  refine n_ishl S (by omega) dX0_upTo_4 ?_
  refine lv_iconst (v := nI 1) S.1 S.2.1 dX0_upTo_5 (by decide) ?_
  refine n_isub S (by rw [Nat.one_shiftLeft]; exact Nat.two_pow_pos f) dX0_upTo_6 ?_
  exact hret _ _ dX0_upTo_7 rfl (⟨rfl, rfl⟩) hw
set_option maxHeartbeats 4000000 in
theorem mX_greatest (l : Launch) (D : va_G) (h : Nat → Nat) (d : Nat → ClassId) (u : gU) (sv : Nat) (hs : sv < 2 ^ 24) : gMi l yX0_greatest cX0_greatest 2 .int (rk 0) D (xL h d) (xT d) [.int (nI sv)] u (fun r u' => r = pI (gtf sv 24) ∧ u = u') := by
  refine gMi_of (by decide) (Nat.le_of_ble_eq_true rfl) ?_
  intro p e s m args below meth c A Q ls S hw hl hret
  have S : CallFix p m c cX0_greatest 2 s args lw_all RX0 := S
  have hl : lv_has ls 2 [(0, .int (nI sv))] := hl
  have lp : ∀ (n : Nat) (i : Nat), (i ≤ 24) → (i + 1 ≤ n) → (gtf sv 24 = gtf sv i) → ∀ (H : Heap) (locs : List Loc) (ls : Array Slot), xW D h d A s H locs u → lv_has ls 2 [(1, .int (pI i)), (0, .int (nI sv))] → W p l e (rk 0) s m args below meth c H locs 0 0 Q (F0 m 3 ls []) := by
    intro n
    induction n with
    | zero =>
      intro i hi hn hg
      exfalso; omega
    | succ n ih =>
      intro i hi hn hg H locs ls hw hl
      refine lv_iload_n S.1 S.2.1 dX0_greatest_3 rfl (lv_at hl 0 rfl) ?_
      refine p_if_lt (tgt := 23) S (by omega) dX0_greatest_4 (by decide) (fun c4 => ?_) (fun c4 => ?_)
      · refine lv_iconst (v := (-1)) S.1 S.2.1 dX0_greatest_23 (by decide) ?_
        exact hret _ _ dX0_greatest_24 rfl (⟨by rw [hg, c4]; exact pI_0.symm, rfl⟩) hw
      · obtain ⟨j, rfl⟩ : ∃ j, i = j + 1 := ⟨i - 1, by omega⟩
        rw [pI_s] at hl
        refine lv_iload_n S.1 S.2.1 dX0_greatest_7 rfl (lv_at hl 1 rfl) ?_
        refine lv_iload_n S.1 S.2.1 dX0_greatest_8 rfl (lv_at hl 0 rfl) ?_
        refine n_ishr S (by omega) (by omega) dX0_greatest_9 ?_
        refine lv_iconst (v := nI 1) S.1 S.2.1 dX0_greatest_10 (by decide) ?_
        refine n_iand S dX0_greatest_11 ?_
        refine n_if_eq (tgt := 17) S (by have := bt_2 sv j; omega) dX0_greatest_12 (by decide) (fun c12 => ?_) (fun c12 => ?_)
        · refine p_iinc (k := 0) (lv' := [(1, .int (pI j)), (0, .int (nI sv))]) S dX0_greatest_17 hl rfl (by decide) rfl (fun ls hl => ?_)
          refine lv_goto (tgt := 3) S.1 S.2.1 dX0_greatest_20 (by decide) ?_
          exact ih j (by omega) (by omega) (by rw [hg, gtf, if_neg (by rw [bt_0 c12]; decide)]) _ _ _ hw (lv_sub hl [0, 1] rfl)
        · refine lv_iload_n S.1 S.2.1 dX0_greatest_15 rfl (lv_at hl 0 rfl) ?_
          exact hret _ _ dX0_greatest_16 rfl (⟨by rw [hg, gtf, if_pos (bt_1 c12), pI_s], rfl⟩) hw
  refine lv_bipush (v := pI 24) S.1 S.2.1 dX0_greatest_0 (by decide) ?_
  refine lv_istore_n (lv' := [(1, .int (pI 24)), (0, .int (nI sv))]) S.1 S.2.1 dX0_greatest_2 rfl hl (by decide) rfl (fun ls hl => ?_)
  exact lp 25 24 (by omega) (by omega) rfl _ _ _ hw (lv_sub hl [0, 1] rfl)
set_option maxHeartbeats 4000000 in
theorem mX_ones (l : Launch) (D : va_G) (h : Nat → Nat) (d : Nat → ClassId) (u : gU) (sv : Nat) (hs : sv < 2 ^ 24) : gMi l yX0_ones cX0_ones 3 .int (rk 0) D (xL h d) (xT d) [.int (nI sv)] u (fun r u' => r = nI (onf sv 24) ∧ u = u') := by
  refine gMi_of (by decide) (Nat.le_of_ble_eq_true rfl) ?_
  intro p e s m args below meth c A Q ls S hw hl hret
  have S : CallFix p m c cX0_ones 3 s args lw_all RX0 := S
  have hl : lv_has ls 3 [(0, .int (nI sv))] := hl
  have lp : ∀ (n : Nat) (i v : Nat), (i ≤ 24) → (25 ≤ i + n) → (v = onf sv i) → ∀ (H : Heap) (locs : List Loc) (ls : Array Slot), xW D h d A s H locs u → lv_has ls 3 [(2, .int (nI i)), (1, .int (nI v)), (0, .int (nI sv))] → W p l e (rk 0) s m args below meth c H locs 0 0 Q (F0 m 4 ls []) := by
    intro n
    induction n with
    | zero =>
      intro i v hi hn hv
      exfalso; omega
    | succ n ih =>
      intro i v hi hn hv H locs ls hw hl
      refine lv_iload_n S.1 S.2.1 dX0_ones_4 rfl (lv_at hl 0 rfl) ?_
      refine lv_bipush (v := nI 24) S.1 S.2.1 dX0_ones_5 (by decide) ?_
      refine n_icmp_ge (tgt := 24) S (by omega) (by omega) dX0_ones_7 (by decide) (fun c7 => ?_) (fun c7 => ?_)
      · refine lv_iload_n S.1 S.2.1 dX0_ones_24 rfl (lv_at hl 1 rfl) ?_
        exact hret _ _ dX0_ones_25 rfl (⟨by rw [hv, show i = 24 by omega], rfl⟩) hw
      · refine lv_iload_n S.1 S.2.1 dX0_ones_10 rfl (lv_at hl 1 rfl) ?_
        refine lv_iload_n S.1 S.2.1 dX0_ones_11 rfl (lv_at hl 2 rfl) ?_
        refine lv_iload_n S.1 S.2.1 dX0_ones_12 rfl (lv_at hl 0 rfl) ?_
        refine n_ishr S (by omega) (by omega) dX0_ones_13 ?_
        refine lv_iconst (v := nI 1) S.1 S.2.1 dX0_ones_14 (by decide) ?_
        refine n_iand S dX0_ones_15 ?_
        refine n_iadd S dX0_ones_16 ?_
        refine lv_istore_n (lv' := [(1, .int (nI (v + ((sv >>> i) &&& 1)))), (2, .int (nI i)), (0, .int (nI sv))]) S.1 S.2.1 dX0_ones_17 rfl hl (by decide) rfl (fun ls hl => ?_)
        refine n_iinc (k := 1) (lv' := [(2, .int (nI (i + 1))), (1, .int (nI (v + ((sv >>> i) &&& 1)))), (0, .int (nI sv))]) S dX0_ones_18 hl rfl (by decide) rfl (fun ls hl => ?_)
        refine lv_goto (tgt := 4) S.1 S.2.1 dX0_ones_21 (by decide) ?_
        exact ih (i + 1) (v + ((sv >>> i) &&& 1)) (by omega) (by omega) (by rw [hv]; rfl) _ _ _ hw (lv_sub hl [0, 1, 2] rfl)
  refine lv_iconst (v := nI 0) S.1 S.2.1 dX0_ones_0 (by decide) ?_
  refine lv_istore_n (lv' := [(1, .int (nI 0)), (0, .int (nI sv))]) S.1 S.2.1 dX0_ones_1 rfl hl (by decide) rfl (fun ls hl => ?_)
  refine lv_iconst (v := nI 0) S.1 S.2.1 dX0_ones_2 (by decide) ?_
  refine lv_istore_n (lv' := [(2, .int (nI 0)), (1, .int (nI 0)), (0, .int (nI sv))]) S.1 S.2.1 dX0_ones_3 rfl hl (by decide) rfl (fun ls hl => ?_)
  exact lp 25 0 0 (by omega) (by omega) rfl _ _ _ hw (lv_sub hl [0, 1, 2] rfl)
set_option maxHeartbeats 4000000 in
theorem mX_goOn (l : Launch) (D : va_G) (h : Nat → Nat) (d : Nat → ClassId) (u : gU) (fr ds ot : Nat) (hfr : fr < 2 ^ 24) (hds : ds ≤ 4) (hot : ot + 24 ≤ 288) : gMi l yX0_goOn cX0_goOn 6 .int (rk 0) D (xL h d) (xT d) [.ref (h 0), .int (nI fr), .int (nI ds), .int (nI ot)] u (fun r u' => r = nI (thf fr (fun b => u 9 (ot + b)) ds (24 - ds)) ∧ u = u') := by
  refine gMi_of (by decide) (Nat.le_of_ble_eq_true rfl) ?_
  intro p e s m args below meth c A Q ls S hw hl hret
  have S : CallFix p m c cX0_goOn 6 s args lw_all RX0 := S
  have hl : lv_has ls 6 [(0, .ref (h 0)), (1, .int (nI fr)), (2, .int (nI ds)), (3, .int (nI ot))] := hl
  have lp : ∀ (n : Nat) (i v : Nat), (i + ds ≤ 24) → (25 ≤ i + n + ds) → (v = thf fr (fun b => u 9 (ot + b)) ds i) → ∀ (H : Heap) (locs : List Loc) (ls : Array Slot), xW D h d A s H locs u → lv_has ls 6 [(5, .int (nI i)), (4, .int (nI v)), (0, .ref (h 0)), (1, .int (nI fr)), (2, .int (nI ds)), (3, .int (nI ot))] → W p l e (rk 0) s m args below meth c H locs 0 0 Q (F0 m 6 ls []) := by
    intro n
    induction n with
    | zero =>
      intro i v hi hn hv
      exfalso; omega
    | succ n ih =>
      intro i v hi hn hv H locs ls hw hl
      refine lv_iload S.1 S.2.1 dX0_goOn_6 (lv_at hl 0 rfl) ?_
      refine lv_iload_n S.1 S.2.1 dX0_goOn_8 rfl (lv_at hl 4 rfl) ?_
      refine n_iadd S dX0_goOn_9 ?_
      refine lv_bipush (v := nI 24) S.1 S.2.1 dX0_goOn_10 (by decide) ?_
      refine n_icmp_ge (tgt := 46) S (by omega) (by omega) dX0_goOn_12 (by decide) (fun c12 => ?_) (fun c12 => ?_)
      · refine lv_iload S.1 S.2.1 dX0_goOn_46 (lv_at hl 1 rfl) ?_
        exact hret _ _ dX0_goOn_48 rfl (⟨by rw [hv, show i = 24 - ds by omega], rfl⟩) hw
      · refine lv_iload_n S.1 S.2.1 dX0_goOn_15 rfl (lv_at hl 3 rfl) ?_
        refine lv_iload S.1 S.2.1 dX0_goOn_16 (lv_at hl 0 rfl) ?_
        refine n_ishr S (by omega) (by omega) dX0_goOn_18 ?_
        refine lv_iconst (v := nI 1) S.1 S.2.1 dX0_goOn_19 (by decide) ?_
        refine n_iand S dX0_goOn_20 ?_
        refine n_if_eq (tgt := 40) S (by have := bt_2 fr i; omega) dX0_goOn_21 (by decide) (fun c21 => ?_) (fun c21 => ?_)
        · refine n_iinc (k := 0) (lv' := [(5, .int (nI (i + 1))), (4, .int (nI v)), (0, .ref (h 0)), (1, .int (nI fr)), (2, .int (nI ds)), (3, .int (nI ot))]) S dX0_goOn_40 hl rfl (by decide) rfl (fun ls hl => ?_)
          refine lv_goto (tgt := 6) S.1 S.2.1 dX0_goOn_43 (by decide) ?_
          exact ih (i + 1) v (by omega) (by omega) (by rw [hv, thf, if_neg (by rw [bt_0 c21]; decide)]) _ _ _ hw (lv_sub hl [0, 1, 2, 3, 4, 5] rfl)
        · refine lv_iload S.1 S.2.1 dX0_goOn_24 (lv_at hl 1 rfl) ?_
          refine lv_aload_n S.1 S.2.1 dX0_goOn_26 rfl (lv_at hl 2 rfl) ?_
          refine x_g9 S hw dX0_goOn_27 ?_
          refine lv_iload_n S.1 S.2.1 dX0_goOn_30 rfl (lv_at hl 5 rfl) ?_
          refine lv_iload S.1 S.2.1 dX0_goOn_31 (lv_at hl 0 rfl) ?_
          refine n_iadd S dX0_goOn_33 ?_
          refine lv_iload_n S.1 S.2.1 dX0_goOn_34 rfl (lv_at hl 4 rfl) ?_
          refine n_iadd S dX0_goOn_35 ?_
          refine x_l9 S hw (by omega) dX0_goOn_36 ?_
          refine n_ior S dX0_goOn_37 ?_
          refine lv_istore (lv' := [(4, .int (nI (v ||| (u 9 ((ot + i) + ds))))), (5, .int (nI i)), (0, .ref (h 0)), (1, .int (nI fr)), (2, .int (nI ds)), (3, .int (nI ot))]) S.1 S.2.1 dX0_goOn_38 hl (by decide) rfl (fun ls hl => ?_)
          refine n_iinc (k := 1) (lv' := [(5, .int (nI (i + 1))), (4, .int (nI (v ||| (u 9 ((ot + i) + ds))))), (0, .ref (h 0)), (1, .int (nI fr)), (2, .int (nI ds)), (3, .int (nI ot))]) S dX0_goOn_40 hl rfl (by decide) rfl (fun ls hl => ?_)
          refine lv_goto (tgt := 6) S.1 S.2.1 dX0_goOn_43 (by decide) ?_
          exact ih (i + 1) (v ||| (u 9 ((ot + i) + ds))) (by omega) (by omega) (by rw [hv, thf, if_pos (bt_1 c21), Nat.add_assoc]) _ _ _ hw (lv_sub hl [0, 1, 2, 3, 4, 5] rfl)
  refine lv_iconst (v := nI 0) S.1 S.2.1 dX0_goOn_0 (by decide) ?_
  refine lv_istore (lv' := [(4, .int (nI 0)), (0, .ref (h 0)), (1, .int (nI fr)), (2, .int (nI ds)), (3, .int (nI ot))]) S.1 S.2.1 dX0_goOn_1 hl (by decide) rfl (fun ls hl => ?_)
  refine lv_iconst (v := nI 0) S.1 S.2.1 dX0_goOn_3 (by decide) ?_
  refine lv_istore (lv' := [(5, .int (nI 0)), (4, .int (nI 0)), (0, .ref (h 0)), (1, .int (nI fr)), (2, .int (nI ds)), (3, .int (nI ot))]) S.1 S.2.1 dX0_goOn_4 hl (by decide) rfl (fun ls hl => ?_)
  exact lp 25 0 0 (by omega) (by omega) rfl _ _ _ hw (lv_sub hl [0, 1, 2, 3, 4, 5] rfl)
/-- r is the first below N with P, or -1 -/
def isFst (P : Nat → Prop) (N : Nat) (r : Int32) : Prop := (∃ c, c < N ∧ P c ∧ (∀ c', c' < c → ¬ P c') ∧ r = nI c) ∨ ((∀ c, c < N → ¬ P c) ∧ r = -1)
theorem isFst_eq {P : Nat → Prop} {N : Nat} {r r' : Int32} (h : isFst P N r) (h' : isFst P N r') : r = r' := by
  rcases h with ⟨c, h1, h2, h3, rfl⟩ | ⟨h1, rfl⟩
  · rcases h' with ⟨c', g1, g2, g3, rfl⟩ | ⟨g1, rfl⟩
    · rcases Nat.lt_trichotomy c c' with q | q | q
      · exact absurd h2 (g3 c q)
      · rw [q]
      · exact absurd g2 (h3 c' q)
    · exact absurd h2 (g1 c h1)
  · rcases h' with ⟨c', g1, g2, g3, rfl⟩ | ⟨g1, rfl⟩
    · exact absurd g2 (h1 c' g1)
    · rfl
theorem neg_le {x : Int32} (h : x < 0) {c : Nat} (hc : c < 2 ^ 31) : x ≤ nI c := Int32.le_of_lt (Int32.lt_of_lt_of_le h (nI_pos' hc))
set_option maxHeartbeats 4000000 in
theorem mX_firstBegin (l : Launch) (D : va_G) (h : Nat → Nat) (d : Nat → ClassId) (u : gU) (k : Nat) (x : Int32) (hk : k < 12) (hE : ∀ c, c < 24 → u 9 (24 * k + c) < 2 ^ 24) : gMi l yX0_firstBegin cX0_firstBegin 4 .int (rk 0) D (xL h d) (xT d) [.ref (h 0), .int (nI k), .int x] u (fun r u' => isFst (fun c => x ≤ nI c ∧ u 9 (24 * k + c) ≠ 0) 24 r ∧ u = u') := by
  refine gMi_of (by decide) (Nat.le_of_ble_eq_true rfl) ?_
  intro p e s m args below meth c A Q ls S hw hl hret
  have S : CallFix p m c cX0_firstBegin 4 s args lw_all RX0 := S
  have hl : lv_has ls 4 [(0, .ref (h 0)), (1, .int (nI k)), (2, .int x)] := hl
  have lp : ∀ (n : Nat) (b : Nat), (b ≤ 24) → (25 ≤ b + n) → (∀ c, c < b → ¬ (x ≤ nI c ∧ u 9 (24 * k + c) ≠ 0)) → (x ≤ nI b) → ∀ (H : Heap) (locs : List Loc) (ls : Array Slot), xW D h d A s H locs u → lv_has ls 4 [(3, .int (nI b)), (0, .ref (h 0)), (1, .int (nI k))] → W p l e (rk 0) s m args below meth c H locs 0 0 Q (F0 m 10 ls []) := by
    intro n
    induction n with
    | zero =>
      intro b hb hn hno hx
      exfalso; omega
    | succ n ih =>
      intro b hb hn hno hx H locs ls hw hl
      refine lv_iload_n S.1 S.2.1 dX0_firstBegin_10 rfl (lv_at hl 0 rfl) ?_
      refine lv_bipush (v := nI 24) S.1 S.2.1 dX0_firstBegin_11 (by decide) ?_
      refine n_icmp_ge (tgt := 38) S (by omega) (by omega) dX0_firstBegin_13 (by decide) (fun c13 => ?_) (fun c13 => ?_)
      · refine lv_iconst (v := (-1)) S.1 S.2.1 dX0_firstBegin_38 (by decide) ?_
        exact hret _ _ dX0_firstBegin_39 rfl (⟨Or.inr ⟨fun c hc => hno c (by omega), rfl⟩, rfl⟩) hw
      · refine lv_aload_n S.1 S.2.1 dX0_firstBegin_16 rfl (lv_at hl 1 rfl) ?_
        refine x_g9 S hw dX0_firstBegin_17 ?_
        refine lv_iload_n S.1 S.2.1 dX0_firstBegin_20 rfl (lv_at hl 2 rfl) ?_
        refine lv_bipush (v := nI 24) S.1 S.2.1 dX0_firstBegin_21 (by decide) ?_
        refine n_imulc S dX0_firstBegin_23 ?_
        refine lv_iload_n S.1 S.2.1 dX0_firstBegin_24 rfl (lv_at hl 0 rfl) ?_
        refine n_iadd S dX0_firstBegin_25 ?_
        refine x_l9 S hw (by omega) dX0_firstBegin_26 ?_
        refine n_if_eq (tgt := 32) S (by have := hE b (by omega); omega) dX0_firstBegin_27 (by decide) (fun c27 => ?_) (fun c27 => ?_)
        · refine n_iinc (k := 0) (lv' := [(3, .int (nI (b + 1))), (0, .ref (h 0)), (1, .int (nI k))]) S dX0_firstBegin_32 hl rfl (by decide) rfl (fun ls hl => ?_)
          refine lv_goto (tgt := 10) S.1 S.2.1 dX0_firstBegin_35 (by decide) ?_
          exact ih (b + 1) (by omega) (by omega) (by intro c hc; rcases Nat.lt_succ_iff_lt_or_eq.mp hc with q | q; exact hno c q; subst q; exact fun z => z.2 c27) (Int32.le_trans hx (nI_le (by omega) (by omega))) _ _ _ hw (lv_sub hl [0, 1, 2] rfl)
        · refine lv_iload_n S.1 S.2.1 dX0_firstBegin_30 rfl (lv_at hl 0 rfl) ?_
          exact hret _ _ dX0_firstBegin_31 rfl (⟨Or.inl ⟨b, by omega, ⟨hx, c27⟩, hno, rfl⟩, rfl⟩) hw
  by_cases hx : x < 0
  · refine lv_iload_n S.1 S.2.1 dX0_firstBegin_0 rfl (lv_at hl 2 rfl) ?_
    refine lv_if_ge (tgt := 8) S.1 S.2.1 dX0_firstBegin_1 (by decide) (fun c1 => ?_) (fun c1 => ?_)
    · exact absurd hx (Int32.not_lt.mpr c1)
    · refine lv_iconst (v := nI 0) S.1 S.2.1 dX0_firstBegin_4 (by decide) ?_
      refine lv_goto (tgt := 9) S.1 S.2.1 dX0_firstBegin_5 (by decide) ?_
      refine lv_istore_n (lv' := [(3, .int (nI 0)), (0, .ref (h 0)), (1, .int (nI k)), (2, .int x)]) S.1 S.2.1 dX0_firstBegin_9 rfl hl (by decide) rfl (fun ls hl => ?_)
      exact lp 25 0 (by omega) (by omega) (fun c hc => absurd hc (by omega)) (neg_le hx (by decide)) _ _ _ hw (lv_sub hl [0, 1, 2] rfl)
  · obtain ⟨f, hf, rfl⟩ := nI_of hx
    have hlow : ∀ c, c < f → c < 2 ^ 31 → ¬ (nI f ≤ nI c ∧ u 9 (24 * k + c) ≠ 0) := fun c hc hc2 q => by have := (nI_leI hf hc2).mp q.1; omega
    refine lv_iload_n S.1 S.2.1 dX0_firstBegin_0 rfl (lv_at hl 2 rfl) ?_
    refine n_if_ge (tgt := 8) S (by omega) dX0_firstBegin_1 (by decide) ?_
    refine lv_iload_n S.1 S.2.1 dX0_firstBegin_8 rfl (lv_at hl 2 rfl) ?_
    refine lv_istore_n (lv' := [(3, .int (nI f)), (0, .ref (h 0)), (1, .int (nI k)), (2, .int (nI f))]) S.1 S.2.1 dX0_firstBegin_9 rfl hl (by decide) rfl (fun ls hl => ?_)
    by_cases hbig : f ≤ 24
    · exact lp 25 f hbig (by omega) (fun c hc => hlow c hc (by omega)) (Int32.le_refl _) _ _ _ hw (lv_sub hl [0, 1, 2] rfl)
    · refine lv_iload_n S.1 S.2.1 dX0_firstBegin_10 rfl (lv_at hl 0 rfl) ?_
      refine lv_bipush (v := nI 24) S.1 S.2.1 dX0_firstBegin_11 (by decide) ?_
      refine n_icmp_ge (tgt := 38) S (by omega) (by omega) dX0_firstBegin_13 (by decide) (fun c13 => ?_) (fun c13 => ?_)
      · refine lv_iconst (v := (-1)) S.1 S.2.1 dX0_firstBegin_38 (by decide) ?_
        exact hret _ _ dX0_firstBegin_39 rfl (⟨Or.inr ⟨fun c hc => hlow c (by omega) (by omega), rfl⟩, rfl⟩) hw
      · exfalso; omega
/-- uu is u, but in row k of table q the first b places hold f -/
def RS (q : Nat) (u uu : gU) (k b : Nat) (f : Nat → Nat) : Prop := (∀ a, a ≠ q → uu a = u a) ∧ ∀ i, uu q i = if 24 * k ≤ i ∧ i < 24 * k + b then f (i - 24 * k) else u q i
theorem RS_0 (q : Nat) (u : gU) (k : Nat) (f : Nat → Nat) : RS q u u k 0 f := ⟨fun _ _ => rfl, fun i => by rw [if_neg (by omega)]⟩
theorem RS_s {q : Nat} {u uu u1 : gU} {k b : Nat} {f : Nat → Nat} (h : RS q u uu k b f) (e : u1 = gup uu q (24 * k + b) (f b)) : RS q u u1 k (b + 1) f := by
  subst e
  refine ⟨fun a ha => by rw [gup_n _ _ _ ha]; exact h.1 a ha, fun i => ?_⟩
  rw [gup_s]
  by_cases e : i = 24 * k + b
  · subst e
    rw [va_up_self, if_pos (by omega), show 24 * k + b - 24 * k = b by omega]
  · rw [va_up_ne _ _ e, h.2 i]
    by_cases c : 24 * k ≤ i ∧ i < 24 * k + b
    · rw [if_pos c, if_pos (by omega)]
    · rw [if_neg c, if_neg (by omega)]
theorem RS_in {q : Nat} {u uu : gU} {k b : Nat} {f : Nat → Nat} (h : RS q u uu k b f) {c : Nat} (hc : c < b) : uu q (24 * k + c) = f c := by
  rw [h.2, if_pos (by omega), show 24 * k + c - 24 * k = c by omega]
theorem RS_out {q : Nat} {u uu : gU} {k b : Nat} {f : Nat → Nat} (h : RS q u uu k b f) {i : Nat} (hi : i < 24 * k ∨ 24 * k + b ≤ i) : uu q i = u q i := by
  rw [h.2, if_neg (by omega)]
set_option maxHeartbeats 4000000 in
theorem mX_word (l : Launch) (D : va_G) (h : Nat → Nat) (d : Nat → ClassId) (u : gU) (k pv : Nat) (hk : k < 12) : gMv l yX0_word cX0_word 4 (rk 0) D (xL h d) (xT d) [.ref (h 0), .int (nI k), .int (nI pv)] u (fun u' => RS 9 u u' k 24 (fun b => pv &&& (1 <<< b))) := by
  refine gMv_of (by decide) (Nat.le_of_ble_eq_true rfl) ?_
  intro p e s m args below meth c A Q ls S hw hl hret
  have S : CallFix p m c cX0_word 4 s args lw_all RX0 := S
  have hl : lv_has ls 4 [(0, .ref (h 0)), (1, .int (nI k)), (2, .int (nI pv))] := hl
  have lp : ∀ (n : Nat) (b : Nat) (uu : gU), (b ≤ 24) → (25 ≤ b + n) → (RS 9 u uu k b (fun b => pv &&& (1 <<< b))) → ∀ (H : Heap) (locs : List Loc) (ls : Array Slot), xW D h d A s H locs uu → lv_has ls 4 [(3, .int (nI b)), (0, .ref (h 0)), (1, .int (nI k)), (2, .int (nI pv))] → W p l e (rk 0) s m args below meth c H locs 0 0 Q (F0 m 2 ls []) := by
    intro n
    induction n with
    | zero =>
      intro b uu hb hn hr
      exfalso; omega
    | succ n ih =>
      intro b uu hb hn hr H locs ls hw hl
      refine lv_iload_n S.1 S.2.1 dX0_word_2 rfl (lv_at hl 0 rfl) ?_
      refine lv_bipush (v := nI 24) S.1 S.2.1 dX0_word_3 (by decide) ?_
      refine n_icmp_ge (tgt := 30) S (by omega) (by omega) dX0_word_5 (by decide) (fun c5 => ?_) (fun c5 => ?_)
      · exact hret _ dX0_word_30 (by rw [show b = 24 by omega] at hr; exact hr) hw
      · refine lv_aload_n S.1 S.2.1 dX0_word_8 rfl (lv_at hl 1 rfl) ?_
        refine x_g9 S hw dX0_word_9 ?_
        refine lv_iload_n S.1 S.2.1 dX0_word_12 rfl (lv_at hl 2 rfl) ?_
        refine lv_bipush (v := nI 24) S.1 S.2.1 dX0_word_13 (by decide) ?_
        refine n_imulc S dX0_word_15 ?_
        refine lv_iload_n S.1 S.2.1 dX0_word_16 rfl (lv_at hl 0 rfl) ?_
        refine n_iadd S dX0_word_17 ?_
        refine lv_iload_n S.1 S.2.1 dX0_word_18 rfl (lv_at hl 3 rfl) ?_
        refine lv_iconst (v := nI 1) S.1 S.2.1 dX0_word_19 (by decide) ?_
        refine lv_iload_n S.1 S.2.1 dX0_word_20 rfl (lv_at hl 0 rfl) ?_
        refine n_ishl S (by omega) dX0_word_21 ?_
        refine n_iand S dX0_word_22 ?_
        refine x_s9 S hw (by omega) dX0_word_23 (fun u1 eu1 H locs hw => ?_)
        refine n_iinc (k := 0) (lv' := [(3, .int (nI (b + 1))), (0, .ref (h 0)), (1, .int (nI k)), (2, .int (nI pv))]) S dX0_word_24 hl rfl (by decide) rfl (fun ls hl => ?_)
        refine lv_goto (tgt := 2) S.1 S.2.1 dX0_word_27 (by decide) ?_
        exact ih (b + 1) u1 (by omega) (by omega) (RS_s hr eu1) _ _ _ hw (lv_sub hl [0, 1, 2, 3] rfl)
  refine lv_iconst (v := nI 0) S.1 S.2.1 dX0_word_0 (by decide) ?_
  refine lv_istore_n (lv' := [(3, .int (nI 0)), (0, .ref (h 0)), (1, .int (nI k)), (2, .int (nI pv))]) S.1 S.2.1 dX0_word_1 rfl hl (by decide) rfl (fun ls hl => ?_)
  exact lp 25 0 u (by omega) (by omega) (RS_0 _ _ _ _) _ _ _ hw (lv_sub hl [0, 1, 2, 3] rfl)
set_option maxHeartbeats 4000000 in
theorem mX_hasTokens (l : Launch) (D : va_G) (h : Nat → Nat) (d : Nat → ClassId) (u : gU) (hn0 : u 4 0 ≤ 12) (ht : ∀ i, u 3 i < 24) : gMi l yX0_hasTokens cX0_hasTokens 3 .int (rk 0) D (xL h d) (xT d) [.ref (h 0)] u (fun r u' => r = nI (htf (u 3) (u 4 0)) ∧ u = u') := by
  refine gMi_of (by decide) (Nat.le_of_ble_eq_true rfl) ?_
  intro p e s m args below meth c A Q ls S hw hl hret
  have S : CallFix p m c cX0_hasTokens 3 s args lw_all RX0 := S
  have hl : lv_has ls 3 [(0, .ref (h 0))] := hl
  have lp : ∀ (n : Nat) (i v : Nat), (i ≤ u 4 0) → (u 4 0 + 1 ≤ i + n) → (v = htf (u 3) i) → ∀ (H : Heap) (locs : List Loc) (ls : Array Slot), xW D h d A s H locs u → lv_has ls 3 [(2, .int (nI i)), (1, .int (nI v)), (0, .ref (h 0))] → W p l e (rk 0) s m args below meth c H locs 0 0 Q (F0 m 4 ls []) := by
    intro n
    induction n with
    | zero =>
      intro i v hi hn hv
      exfalso; omega
    | succ n ih =>
      intro i v hi hn hv H locs ls hw hl
      refine lv_iload_n S.1 S.2.1 dX0_hasTokens_4 rfl (lv_at hl 0 rfl) ?_
      refine lv_aload_n S.1 S.2.1 dX0_hasTokens_5 rfl (lv_at hl 2 rfl) ?_
      refine x_g4 S hw dX0_hasTokens_6 ?_
      refine n_icmp_ge (tgt := 37) S (by omega) (by omega) dX0_hasTokens_9 (by decide) (fun c9 => ?_) (fun c9 => ?_)
      · refine lv_iload_n S.1 S.2.1 dX0_hasTokens_37 rfl (lv_at hl 1 rfl) ?_
        exact hret _ _ dX0_hasTokens_38 rfl (⟨by rw [hv, show i = u 4 0 by omega], rfl⟩) hw
      · refine lv_iload_n S.1 S.2.1 dX0_hasTokens_12 rfl (lv_at hl 1 rfl) ?_
        refine lv_aload_n S.1 S.2.1 dX0_hasTokens_13 rfl (lv_at hl 2 rfl) ?_
        refine x_g3 S hw dX0_hasTokens_14 ?_
        refine lv_iload_n S.1 S.2.1 dX0_hasTokens_17 rfl (lv_at hl 0 rfl) ?_
        refine x_l3 S hw (by omega) dX0_hasTokens_18 ?_
        refine lv_bipush (v := nI 23) S.1 S.2.1 dX0_hasTokens_19 (by decide) ?_
        refine n_icmp_ne (tgt := 28) S (by have := ht i; omega) (by omega) dX0_hasTokens_21 (by decide) (fun c21 => ?_) (fun c21 => ?_)
        · refine lv_iconst (v := nI 0) S.1 S.2.1 dX0_hasTokens_28 (by decide) ?_
          refine n_iadd S dX0_hasTokens_29 ?_
          refine lv_istore_n (lv' := [(1, .int (nI (v + 0))), (2, .int (nI i)), (0, .ref (h 0))]) S.1 S.2.1 dX0_hasTokens_30 rfl hl (by decide) rfl (fun ls hl => ?_)
          refine n_iinc (k := 1) (lv' := [(2, .int (nI (i + 1))), (1, .int (nI (v + 0))), (0, .ref (h 0))]) S dX0_hasTokens_31 hl rfl (by decide) rfl (fun ls hl => ?_)
          refine lv_goto (tgt := 4) S.1 S.2.1 dX0_hasTokens_34 (by decide) ?_
          exact ih (i + 1) (v + 0) (by omega) (by omega) (by rw [hv, htf, bN_f c21]) _ _ _ hw (lv_sub hl [0, 1, 2] rfl)
        · refine lv_iconst (v := nI 1) S.1 S.2.1 dX0_hasTokens_24 (by decide) ?_
          refine lv_goto (tgt := 29) S.1 S.2.1 dX0_hasTokens_25 (by decide) ?_
          refine n_iadd S dX0_hasTokens_29 ?_
          refine lv_istore_n (lv' := [(1, .int (nI (v + 1))), (2, .int (nI i)), (0, .ref (h 0))]) S.1 S.2.1 dX0_hasTokens_30 rfl hl (by decide) rfl (fun ls hl => ?_)
          refine n_iinc (k := 1) (lv' := [(2, .int (nI (i + 1))), (1, .int (nI (v + 1))), (0, .ref (h 0))]) S dX0_hasTokens_31 hl rfl (by decide) rfl (fun ls hl => ?_)
          refine lv_goto (tgt := 4) S.1 S.2.1 dX0_hasTokens_34 (by decide) ?_
          exact ih (i + 1) (v + 1) (by omega) (by omega) (by rw [hv, htf, bN_t c21]) _ _ _ hw (lv_sub hl [0, 1, 2] rfl)
  refine lv_iconst (v := nI 0) S.1 S.2.1 dX0_hasTokens_0 (by decide) ?_
  refine lv_istore_n (lv' := [(1, .int (nI 0)), (0, .ref (h 0))]) S.1 S.2.1 dX0_hasTokens_1 rfl hl (by decide) rfl (fun ls hl => ?_)
  refine lv_iconst (v := nI 0) S.1 S.2.1 dX0_hasTokens_2 (by decide) ?_
  refine lv_istore_n (lv' := [(2, .int (nI 0)), (1, .int (nI 0)), (0, .ref (h 0))]) S.1 S.2.1 dX0_hasTokens_3 rfl hl (by decide) rfl (fun ls hl => ?_)
  exact lp (u 4 0 + 1) 0 0 (by omega) (by omega) rfl _ _ _ hw (lv_sub hl [0, 1, 2] rfl)
set_option maxHeartbeats 4000000 in
theorem mX_unask (l : Launch) (D : va_G) (h : Nat → Nat) (d : Nat → ClassId) (u : gU) (hn0 : u 4 0 ≤ 12) : gMi l yX0_unask cX0_unask 1 .int (rk 0) D (xL h d) (xT d) [.ref (h 0)] u (fun r u' => (u 4 0 = 0 → r = -1 ∧ u = u') ∧ (0 < u 4 0 → r = nI (u 3 (u 4 0 - 1)) ∧ u' = gup u 4 0 (u 4 0 - 1))) := by
  refine gMi_of (by decide) (Nat.le_of_ble_eq_true rfl) ?_
  intro p e s m args below meth c A Q ls S hw hl hret
  have S : CallFix p m c cX0_unask 1 s args lw_all RX0 := S
  have hl : lv_has ls 1 [(0, .ref (h 0))] := hl
  refine lv_aload_n S.1 S.2.1 dX0_unask_0 rfl (lv_at hl 0 rfl) ?_
  refine x_g4 S hw dX0_unask_1 ?_
  refine n_if_ne (tgt := 9) S (by omega) dX0_unask_4 (by decide) (fun c4 => ?_) (fun c4 => ?_)
  · refine lv_aload_n S.1 S.2.1 dX0_unask_9 rfl (lv_at hl 0 rfl) ?_
    refine lv_dup S.1 S.2.1 dX0_unask_10 rfl ?_
    refine x_g4 S hw dX0_unask_11 ?_
    refine lv_iconst (v := nI 1) S.1 S.2.1 dX0_unask_14 (by decide) ?_
    refine n_isub S (by omega) dX0_unask_15 ?_
    refine x_p4 S hw dX0_unask_16 (fun u1 eu1 H locs hw => ?_)
    refine lv_aload_n S.1 S.2.1 dX0_unask_19 rfl (lv_at hl 0 rfl) ?_
    refine x_g3 S hw dX0_unask_20 ?_
    refine lv_aload_n S.1 S.2.1 dX0_unask_23 rfl (lv_at hl 0 rfl) ?_
    refine x_g4 S hw dX0_unask_24 ?_
    refine x_l3 S hw (by rw [eu1, gup_s, va_up_self]; omega) dX0_unask_27 ?_
    exact hret _ _ dX0_unask_28 rfl (⟨fun q => absurd q (by omega), fun _ => ⟨by rw [eu1, gup_s, va_up_self, gup_n _ _ _ (by decide)], eu1⟩⟩) hw
  · refine lv_iconst (v := (-1)) S.1 S.2.1 dX0_unask_7 (by decide) ?_
    exact hret _ _ dX0_unask_8 rfl (⟨fun _ => ⟨rfl, rfl⟩, fun q => absurd q (by omega)⟩) hw
/-- what attach does: oc = u 8 0 parts are left over; the top one takes token k -/
def atS (u : gU) (k : Nat) : gU := if k = u 6 (u 8 0 - 1) + 1 then u else gup u 5 (u 6 (u 8 0 - 1)) k
def atW (u : gU) (k : Nat) : gU := gup (atS u k) 7 (u 8 0 - 1) (u 7 (u 8 0 - 1) - 1)
def atF (u : gU) (k : Nat) : gU := if u 7 (u 8 0 - 1) - 1 = 0 then gup (atW u k) 8 0 (u 8 0 - 1) else atW u k
theorem atS_n (u : gU) (k : Nat) {a : Nat} (h : a ≠ 5) : atS u k a = u a := by
  unfold atS; split
  · rfl
  · exact gup_n _ _ _ h
theorem atW_n (u : gU) (k : Nat) {a : Nat} (h5 : a ≠ 5) (h7 : a ≠ 7) : atW u k a = u a := by
  unfold atW; rw [gup_n _ _ _ h7, atS_n u k h5]
theorem atF_n (u : gU) (k : Nat) {a : Nat} (h5 : a ≠ 5) (h7 : a ≠ 7) (h8 : a ≠ 8) : atF u k a = u a := by
  unfold atF; split
  · rw [gup_n _ _ _ h8, atW_n u k h5 h7]
  · exact atW_n u k h5 h7
set_option maxHeartbeats 4000000 in
theorem mX_attach (l : Launch) (D : va_G) (h : Nat → Nat) (d : Nat → ClassId) (u : gU) (k : Nat) (hk : k < 12) (h0 : 0 < u 8 0) (h1 : u 8 0 ≤ 14) (h6 : u 6 (u 8 0 - 1) < 12) (h7 : 0 < u 7 (u 8 0 - 1)) (h7' : u 7 (u 8 0 - 1) ≤ 2) : gMv l yX0_attach cX0_attach 3 (rk 0) D (xL h d) (xT d) [.ref (h 0), .int (nI k)] u (fun u' => u' = atF u k) := by
  refine gMv_of (by decide) (Nat.le_of_ble_eq_true rfl) ?_
  intro p e s m args below meth c A Q ls S hw hl hret
  have S : CallFix p m c cX0_attach 3 s args lw_all RX0 := S
  have hl : lv_has ls 3 [(0, .ref (h 0)), (1, .int (nI k))] := hl
  refine lv_aload_n S.1 S.2.1 dX0_attach_0 rfl (lv_at hl 0 rfl) ?_
  refine x_g8 S hw dX0_attach_1 ?_
  refine lv_iconst (v := nI 1) S.1 S.2.1 dX0_attach_4 (by decide) ?_
  refine n_isub S (by omega) dX0_attach_5 ?_
  refine lv_istore_n (lv' := [(2, .int (nI ((u 8 0) - 1))), (0, .ref (h 0)), (1, .int (nI k))]) S.1 S.2.1 dX0_attach_6 rfl hl (by decide) rfl (fun ls hl => ?_)
  refine lv_iload_n S.1 S.2.1 dX0_attach_7 rfl (lv_at hl 2 rfl) ?_
  refine lv_aload_n S.1 S.2.1 dX0_attach_8 rfl (lv_at hl 1 rfl) ?_
  refine x_g6 S hw dX0_attach_9 ?_
  refine lv_iload_n S.1 S.2.1 dX0_attach_12 rfl (lv_at hl 0 rfl) ?_
  refine x_l6 S hw (by omega) dX0_attach_13 ?_
  refine lv_iconst (v := nI 1) S.1 S.2.1 dX0_attach_14 (by decide) ?_
  refine n_iadd S dX0_attach_15 ?_
  refine n_icmp_eq (tgt := 32) S (by omega) (by omega) dX0_attach_16 (by decide) (fun c16 => ?_) (fun c16 => ?_)
  · have ea : u = atS u k := by unfold atS; rw [if_pos (by omega)]
    refine lv_aload_n S.1 S.2.1 dX0_attach_32 rfl (lv_at hl 1 rfl) ?_
    refine x_g7 S hw dX0_attach_33 ?_
    refine lv_iload_n S.1 S.2.1 dX0_attach_36 rfl (lv_at hl 0 rfl) ?_
    refine lv_dup2_11 S.1 S.2.1 dX0_attach_37 rfl rfl ?_
    refine x_l7 S hw (by omega) dX0_attach_38 ?_
    refine lv_iconst (v := nI 1) S.1 S.2.1 dX0_attach_39 (by decide) ?_
    refine n_isub S (by omega) dX0_attach_40 ?_
    refine n_i2b S (by omega) dX0_attach_41 ?_
    refine x_s7 S hw (by omega) (by omega) dX0_attach_42 (fun u1 eu1 H locs hw => ?_)
    have eb : u1 = atW u k := by rw [eu1]; unfold atW; rw [← ea]
    have b7 : u1 7 (u 8 0 - 1) = u 7 (u 8 0 - 1) - 1 := by rw [eb]; unfold atW; rw [gup_s, va_up_self]
    have b8 : u1 8 0 = u 8 0 := by rw [eb, atW_n u k (by decide) (by decide)]
    refine lv_aload_n S.1 S.2.1 dX0_attach_43 rfl (lv_at hl 1 rfl) ?_
    refine x_g7 S hw dX0_attach_44 ?_
    refine lv_iload_n S.1 S.2.1 dX0_attach_47 rfl (lv_at hl 0 rfl) ?_
    refine x_l7 S hw (by omega) dX0_attach_48 ?_
    refine n_if_ne (tgt := 62) S (by omega) dX0_attach_49 (by decide) (fun c49 => ?_) (fun c49 => ?_)
    · refine hret _ dX0_attach_62 ?_ hw
      show u1 = atF u k
      unfold atF
      rw [if_neg (by omega), eb]
    · refine lv_aload_n S.1 S.2.1 dX0_attach_52 rfl (lv_at hl 1 rfl) ?_
      refine lv_dup S.1 S.2.1 dX0_attach_53 rfl ?_
      refine x_g8 S hw dX0_attach_54 ?_
      refine lv_iconst (v := nI 1) S.1 S.2.1 dX0_attach_57 (by decide) ?_
      refine n_isub S (by omega) dX0_attach_58 ?_
      refine x_p8 S hw dX0_attach_59 (fun u2 eu2 H locs hw => ?_)
      refine hret _ dX0_attach_62 ?_ hw
      show u2 = atF u k
      unfold atF
      rw [if_pos (by omega), eu2, eb, ← eb, b8]
  · refine lv_aload_n S.1 S.2.1 dX0_attach_19 rfl (lv_at hl 1 rfl) ?_
    refine x_g5 S hw dX0_attach_20 ?_
    refine lv_aload_n S.1 S.2.1 dX0_attach_23 rfl (lv_at hl 1 rfl) ?_
    refine x_g6 S hw dX0_attach_24 ?_
    refine lv_iload_n S.1 S.2.1 dX0_attach_27 rfl (lv_at hl 0 rfl) ?_
    refine x_l6 S hw (by omega) dX0_attach_28 ?_
    refine lv_iload_n S.1 S.2.1 dX0_attach_29 rfl (lv_at hl 2 rfl) ?_
    refine n_i2b S (by omega) dX0_attach_30 ?_
    refine x_s5 S hw (by omega) (by omega) dX0_attach_31 (fun u3 eu3 H locs hw => ?_)
    have ea : u3 = atS u k := by rw [eu3]; unfold atS; rw [if_neg (by omega)]
    have a7 : u3 7 = u 7 := by rw [ea]; exact atS_n u k (by decide)
    have a8 : u3 8 = u 8 := by rw [ea]; exact atS_n u k (by decide)
    have a7' : u3 7 (u 8 0 - 1) = u 7 (u 8 0 - 1) := by rw [a7]
    refine lv_aload_n S.1 S.2.1 dX0_attach_32 rfl (lv_at hl 1 rfl) ?_
    refine x_g7 S hw dX0_attach_33 ?_
    refine lv_iload_n S.1 S.2.1 dX0_attach_36 rfl (lv_at hl 0 rfl) ?_
    refine lv_dup2_11 S.1 S.2.1 dX0_attach_37 rfl rfl ?_
    refine x_l7 S hw (by omega) dX0_attach_38 ?_
    refine lv_iconst (v := nI 1) S.1 S.2.1 dX0_attach_39 (by decide) ?_
    refine n_isub S (by omega) dX0_attach_40 ?_
    refine n_i2b S (by omega) dX0_attach_41 ?_
    refine x_s7 S hw (by omega) (by omega) dX0_attach_42 (fun u4 eu4 H locs hw => ?_)
    have eb : u4 = atW u k := by rw [eu4]; unfold atW; rw [← ea, a7]
    have b7 : u4 7 (u 8 0 - 1) = u 7 (u 8 0 - 1) - 1 := by rw [eb]; unfold atW; rw [gup_s, va_up_self]
    have b8 : u4 8 0 = u 8 0 := by rw [eb, atW_n u k (by decide) (by decide)]
    refine lv_aload_n S.1 S.2.1 dX0_attach_43 rfl (lv_at hl 1 rfl) ?_
    refine x_g7 S hw dX0_attach_44 ?_
    refine lv_iload_n S.1 S.2.1 dX0_attach_47 rfl (lv_at hl 0 rfl) ?_
    refine x_l7 S hw (by omega) dX0_attach_48 ?_
    refine n_if_ne (tgt := 62) S (by omega) dX0_attach_49 (by decide) (fun c49 => ?_) (fun c49 => ?_)
    · refine hret _ dX0_attach_62 ?_ hw
      show u4 = atF u k
      unfold atF
      rw [if_neg (by omega), eb]
    · refine lv_aload_n S.1 S.2.1 dX0_attach_52 rfl (lv_at hl 1 rfl) ?_
      refine lv_dup S.1 S.2.1 dX0_attach_53 rfl ?_
      refine x_g8 S hw dX0_attach_54 ?_
      refine lv_iconst (v := nI 1) S.1 S.2.1 dX0_attach_57 (by decide) ?_
      refine n_isub S (by omega) dX0_attach_58 ?_
      refine x_p8 S hw dX0_attach_59 (fun u5 eu5 H locs hw => ?_)
      refine hret _ dX0_attach_62 ?_ hw
      show u5 = atF u k
      unfold atF
      rw [if_pos (by omega), eu5, eb, ← eb, b8]
end
section
/-! the reading of a query, plain -/
set_option maxRecDepth 100000
def RC (t s6 s7 : Nat → Nat) (oc : Nat) : Prop := (∀ i, i + 1 < oc → nd t (s6 i) - 1 + s7 i = nd t (s6 (i + 1)) - 1) ∧ (∀ i i', i < i' → i' < oc → nd t (s6 i) < nd t (s6 i')) ∧ (0 < oc → nd t (s6 0) = 1) ∧ ∀ i, i < oc → 0 < nd t (s6 i)
/-- k tokens are read: oc parts are left over, the tokens s6 with the wants s7; s5 are the second parts found -/
def RI (t : Nat → Nat) (k : Nat) (s5 s6 s7 : Nat → Nat) (oc : Nat) : Prop := RC t s6 s7 oc ∧ (0 < oc → nd t (s6 (oc - 1)) - 1 + s7 (oc - 1) = nd t k) ∧ (oc = 0 → 0 < k → nd t k = 0) ∧
  (∀ i, i < oc → s6 i < k ∧ ((i + 1 = oc ∧ s7 i = ar (t (s6 i)) ∧ 0 < s7 i ∧ s6 i + 1 = k) ∨ (s7 i = 1 ∧ ar (t (s6 i)) = 2 ∧ s6 i + 1 < k))) ∧ (∀ i, i < oc → ∀ j, s6 i < j → j < k → nd t (s6 i) < nd t j) ∧
  (∀ T, T < k → ar (t T) = 2 → (∃ i, i < oc ∧ s6 i = T) ∨ (isSec t T (s5 T) ∧ s5 T < k)) ∧ (∀ i, i < oc → ∀ p, nd t (s6 i) - 1 ≤ p → p < nd t (s6 i) - 1 + s7 i → pl t k p = kd (t (s6 i))) ∧ oc ≤ k
/-- token k has been attached, not yet read itself -/
def MI (t : Nat → Nat) (k : Nat) (s5 s6 s7 : Nat → Nat) (oc : Nat) : Prop := RC t s6 s7 oc ∧ (0 < oc → nd t (s6 (oc - 1)) - 1 + s7 (oc - 1) = nd t k - 1) ∧ (oc = 0 → nd t k = 1) ∧
  (∀ i, i < oc → s7 i = 1 ∧ ar (t (s6 i)) = 2 ∧ s6 i < k) ∧ (∀ i, i < oc → ∀ j, s6 i < j → j < k + 1 → nd t (s6 i) < nd t j) ∧
  (∀ T, T < k → ar (t T) = 2 → (∃ i, i < oc ∧ s6 i = T) ∨ (isSec t T (s5 T) ∧ s5 T < k + 1)) ∧ (∀ i, i < oc → pl t k (nd t (s6 i) - 1) = kd (t (s6 i))) ∧ oc ≤ k
theorem RI_0 (t s5 s6 s7 : Nat → Nat) : RI t 0 s5 s6 s7 0 :=
  ⟨⟨fun i h => absurd h (by omega), fun i i' _ h => absurd h (by omega), fun h => absurd h (by omega), fun i h => absurd h (by omega)⟩, fun h => absurd h (by omega), fun _ h => absurd h (by omega), fun i h => absurd h (by omega), fun i h => absurd h (by omega), fun T h => absurd h (by omega), fun i h => absurd h (by omega), Nat.le_refl _⟩
theorem MI_0 (t s5 s6 s7 : Nat → Nat) : MI t 0 s5 s6 s7 0 :=
  ⟨⟨fun i h => absurd h (by omega), fun i i' _ h => absurd h (by omega), fun h => absurd h (by omega), fun i h => absurd h (by omega)⟩, fun h => absurd h (by omega), fun _ => rfl, fun i h => absurd h (by omega), fun i h => absurd h (by omega), fun T h => absurd h (by omega), fun i h => absurd h (by omega), Nat.le_refl _⟩
theorem RI_pop {t : Nat → Nat} {k : Nat} {s5 s6 s7 s5' s7' : Nat → Nat} {oc : Nat} (h : RI t k s5 s6 s7 oc) (h0 : 0 < oc) (hk : 0 < nd t k) (w1 : s7 (oc - 1) = 1)
    (e5 : ∀ T, s5' T = if ¬ k = s6 (oc - 1) + 1 ∧ T = s6 (oc - 1) then k else s5 T) (e7 : ∀ i, i ≠ oc - 1 → s7' i = s7 i) : MI t k s5' s6 s7' (oc - 1) := by
  obtain ⟨⟨ha, ho, hb, hp⟩, ht, hz, hc, hd, he, hf, hle⟩ := h
  have htop := ht h0
  rw [w1] at htop
  have hpT := hp (oc - 1) (by omega)
  have alt : ∀ i, i < oc - 1 → s7 i = 1 ∧ ar (t (s6 i)) = 2 ∧ s6 i + 1 < k := by
    intro i hi
    rcases (hc i (by omega)).2 with q | q
    · omega
    · exact q
  have secT : ¬ k = s6 (oc - 1) + 1 → isSec t (s6 (oc - 1)) k := by
    intro hne
    have := (hc (oc - 1) (by omega)).1
    exact ⟨by omega, by omega, hd (oc - 1) (by omega)⟩
  refine ⟨⟨fun i hi => ?_, fun i i' h1 h2 => ho i i' h1 (by omega), fun _ => hb h0, fun i hi => hp i (by omega)⟩, fun h1 => ?_, fun h1 => ?_, fun i hi => ?_, fun i hi j h1 h2 => ?_, fun T hT hT2 => ?_, fun i hi => ?_, by omega⟩
  · rw [e7 i (by omega)]; exact ha i (by omega)
  · rw [e7 (oc - 1 - 1) (by omega)]
    have := ha (oc - 1 - 1) (by omega)
    rw [show oc - 1 - 1 + 1 = oc - 1 by omega] at this
    omega
  · have := hb h0
    rw [show oc - 1 = 0 by omega] at htop
    omega
  · rw [e7 i (by omega)]
    have := alt i hi
    exact ⟨this.1, this.2.1, by omega⟩
  · rcases Nat.lt_succ_iff_lt_or_eq.mp h2 with q | q
    · exact hd i (by omega) j h1 q
    · subst q
      have := ho i (oc - 1) hi (by omega)
      omega
  · rw [e5 T]
    by_cases c : ¬ k = s6 (oc - 1) + 1 ∧ T = s6 (oc - 1)
    · rw [if_pos c, c.2]
      exact Or.inr ⟨secT c.1, by omega⟩
    · rw [if_neg c]
      rcases he T hT hT2 with ⟨i, hi, e⟩ | ⟨q1, q2⟩
      · by_cases hi2 : i < oc - 1
        · exact Or.inl ⟨i, hi2, e⟩
        · have hio : i = oc - 1 := by omega
          subst hio
          rcases (hc (oc - 1) (by omega)).2 with q | q
          · rw [e] at q; omega
          · exact absurd ⟨by omega, e.symm⟩ c
      · exact Or.inr ⟨q1, by omega⟩
  · have := alt i hi
    exact hf i (by omega) _ (Nat.le_refl _) (by omega)
theorem RI_dec {t : Nat → Nat} {k : Nat} {s5 s6 s7 s7' : Nat → Nat} {oc : Nat} (h : RI t k s5 s6 s7 oc) (h0 : 0 < oc) (w1 : ¬ s7 (oc - 1) = 1)
    (e7 : ∀ i, i ≠ oc - 1 → s7' i = s7 i) (e7' : s7' (oc - 1) = s7 (oc - 1) - 1) : MI t k s5 s6 s7' oc ∧ k = s6 (oc - 1) + 1 := by
  obtain ⟨⟨ha, ho, hb, hp⟩, ht, hz, hc, hd, he, hf, hle⟩ := h
  have htop := ht h0
  have hpT := hp (oc - 1) (by omega)
  have hT : s7 (oc - 1) = 2 ∧ ar (t (s6 (oc - 1))) = 2 ∧ s6 (oc - 1) + 1 = k := by
    have := ar_le (t (s6 (oc - 1)))
    rcases (hc (oc - 1) (by omega)).2 with q | q
    · omega
    · omega
  have alt : ∀ i, i < oc - 1 → s7 i = 1 ∧ ar (t (s6 i)) = 2 ∧ s6 i + 1 < k := by
    intro i hi
    rcases (hc i (by omega)).2 with q | q
    · omega
    · exact q
  refine ⟨⟨⟨fun i hi => ?_, ho, hb, hp⟩, fun _ => by rw [e7']; omega, fun q => absurd q (by omega), fun i hi => ?_, fun i hi j h1 h2 => ?_, fun T hT hT2 => ?_, fun i hi => ?_, by omega⟩, hT.2.2.symm⟩
  · rw [e7 i (by omega)]; exact ha i hi
  · by_cases c : i = oc - 1
    · subst c
      exact ⟨by omega, hT.2.1, by omega⟩
    · rw [e7 i c]
      have := alt i (by omega)
      exact ⟨this.1, this.2.1, by omega⟩
  · rcases Nat.lt_succ_iff_lt_or_eq.mp h2 with q | q
    · exact hd i hi j h1 q
    · subst q
      by_cases c : i = oc - 1
      · subst c; omega
      · have := ho i (oc - 1) (by omega) (by omega)
        omega
  · rcases he T hT hT2 with q | ⟨q1, q2⟩
    · exact Or.inl q
    · exact Or.inr ⟨q1, by omega⟩
  · by_cases c : i = oc - 1
    · subst c
      exact hf _ hi _ (Nat.le_refl _) (by omega)
    · have := alt i (by omega)
      exact hf i hi _ (Nat.le_refl _) (by omega)
theorem MI_word {t : Nat → Nat} {k : Nat} {s5 s6 s7 : Nat → Nat} {oc : Nat} (h : MI t k s5 s6 s7 oc) (ha0 : ar (t k) = 0) : RI t (k + 1) s5 s6 s7 oc := by
  obtain ⟨hr, ht, hz, hc, hd, he, hf, hle⟩ := h
  have e : nd t (k + 1) = nd t k - 1 := by rw [nd_s, ha0]; rfl
  refine ⟨hr, fun q => by rw [e]; exact ht q, fun q _ => by rw [e]; have := hz q; omega, fun i hi => ?_, fun i hi j h1 h2 => hd i hi j h1 h2, fun T hT hT2 => ?_, fun i hi p h1 h2 => ?_, by omega⟩
  · have := hc i hi
    exact ⟨by omega, Or.inr ⟨this.1, this.2.1, by omega⟩⟩
  · rcases Nat.lt_succ_iff_lt_or_eq.mp hT with q | q
    · exact he T q hT2
    · subst q; omega
  · have h7 := (hc i hi).1
    rw [pl_s, if_neg (by omega), show p = nd t (s6 i) - 1 by omega]
    exact hf i hi
theorem MI_push {t : Nat → Nat} {k : Nat} {s5 s6 s7 : Nat → Nat} {oc : Nat} (h : MI t k s5 s6 s7 oc) (hk : 0 < nd t k) (ha0 : 0 < ar (t k)) : RI t (k + 1) s5 (va_up s6 oc k) (va_up s7 oc (ar (t k))) (oc + 1) := by
  obtain ⟨⟨ha, ho, hb, hp⟩, ht, hz, hc, hd, he, hf, hle⟩ := h
  have o6 : ∀ i, i < oc → va_up s6 oc k i = s6 i := fun i hi => va_up_ne _ _ (by omega)
  have o7 : ∀ i, i < oc → va_up s7 oc (ar (t k)) i = s7 i := fun i hi => va_up_ne _ _ (by omega)
  have n6 : va_up s6 oc k oc = k := va_up_self _ _ _
  have n7 : va_up s7 oc (ar (t k)) oc = ar (t k) := va_up_self _ _ _
  refine ⟨⟨fun i hi => ?_, fun i i' h1 h2 => ?_, fun _ => ?_, fun i hi => ?_⟩, fun _ => ?_, fun q => absurd q (by omega), fun i hi => ?_, fun i hi j h1 h2 => ?_, fun T hT hT2 => ?_, fun i hi p h1 h2 => ?_, by omega⟩
  · rcases Nat.lt_succ_iff_lt_or_eq.mp hi with q | q
    · rw [o6 i (by omega), o7 i (by omega), o6 (i + 1) q]; exact ha i q
    · rw [o6 i (by omega), o7 i (by omega), q, n6]
      have := ht (by omega)
      rw [show oc - 1 = i by omega] at this
      exact this
  · rcases Nat.lt_succ_iff_lt_or_eq.mp h2 with q | q
    · rw [o6 i (by omega), o6 i' q]; exact ho i i' h1 q
    · rw [o6 i (by omega), q, n6]
      exact hd i (by omega) k (hc i (by omega)).2.2 (by omega)
  · by_cases q : oc = 0
    · rw [q] at n6 ⊢
      rw [n6]; exact hz q
    · rw [o6 0 (by omega)]; exact hb (by omega)
  · rcases Nat.lt_succ_iff_lt_or_eq.mp hi with q | q
    · rw [o6 i q]; exact hp i q
    · rw [q, n6]; exact hk
  · rw [show oc + 1 - 1 = oc by omega, n6, n7]; rfl
  · rcases Nat.lt_succ_iff_lt_or_eq.mp hi with q | q
    · rw [o6 i q, o7 i q]
      have := hc i q
      exact ⟨by omega, Or.inr ⟨this.1, this.2.1, by omega⟩⟩
    · rw [q, n6, n7]
      exact ⟨by omega, Or.inl ⟨rfl, rfl, ha0, rfl⟩⟩
  · rcases Nat.lt_succ_iff_lt_or_eq.mp hi with q | q
    · rw [o6 i q] at h1 ⊢; exact hd i q j h1 h2
    · rw [q, n6] at h1; omega
  · rcases Nat.lt_succ_iff_lt_or_eq.mp hT with q | q
    · rcases he T q hT2 with ⟨i, hi, e⟩ | r
      · exact Or.inl ⟨i, by omega, by rw [o6 i hi]; exact e⟩
      · exact Or.inr r
    · exact Or.inl ⟨oc, by omega, by rw [n6, q]⟩
  · rcases Nat.lt_succ_iff_lt_or_eq.mp hi with q | q
    · rw [o6 i q] at h1 h2 ⊢
      rw [o7 i q, (hc i q).1] at h2
      have h3 := hd i q k (hc i q).2.2 (by omega)
      have h4 := hp i q
      rw [pl_s, if_neg (by omega), show p = nd t (s6 i) - 1 by omega]
      exact hf i q
    · rw [q, n6] at h1 h2 ⊢
      rw [n7] at h2
      rw [pl_s, if_pos ⟨h1, h2⟩]
/-- a query read whole -/
theorem RI_end {t : Nat → Nat} {n : Nat} {s5 s6 s7 : Nat → Nat} {oc : Nat} (h : RI t n s5 s6 s7 oc) (hn : 0 < n) : (oc = 0 ↔ nd t n = 0) ∧ (0 < oc → s6 (oc - 1) < n ∧ kd (t (s6 (oc - 1))) = pl t n (nd t n - 1)) ∧ (oc = 0 → ∀ T, T < n → ar (t T) = 2 → isSec t T (s5 T) ∧ s5 T < n) := by
  obtain ⟨⟨ha, ho, hb, hp⟩, ht, hz, hc, hd, he, hf, hle⟩ := h
  refine ⟨⟨fun q => hz q hn, fun q => ?_⟩, fun q => ?_, fun q T hT h2 => ?_⟩
  · refine Classical.byContradiction fun z => ?_
    have h1 := ht (by omega)
    rcases (hc (oc - 1) (by omega)).2 with r | r <;> omega
  · have h1 := ht q
    have h2 := hp (oc - 1) (by omega)
    refine ⟨(hc (oc - 1) (by omega)).1, (hf (oc - 1) (by omega) _ ?_ ?_).symm⟩
    · rcases (hc (oc - 1) (by omega)).2 with r | r <;> omega
    · rcases (hc (oc - 1) (by omega)).2 with r | r <;> omega
  · rcases he T hT h2 with ⟨i, hi, -⟩ | r
    · omega
    · exact r
/-- what stands behind does not matter -/
theorem nd_up {t : Nat → Nat} {n y : Nat} : ∀ k, k ≤ n → nd (va_up t n y) k = nd t k
  | 0, _ => rfl
  | k + 1, h => by rw [nd_s, nd_s, nd_up k (by omega), va_up_ne _ _ (by omega)]
theorem pl_up {t : Nat → Nat} {n y : Nat} : ∀ k p, k ≤ n → pl (va_up t n y) k p = pl t k p
  | 0, _, _ => rfl
  | k + 1, p, h => by rw [pl_s, pl_s, nd_up k (by omega), va_up_ne _ _ (by omega), pl_up k p (by omega)]
theorem qI_add {t : Nat → Nat} {n y : Nat} (h : qI t n) (hn : n < 12) (hy : y < 24) (h0 : 0 < nd t n) (hk : (pl t n (nd t n - 1) = 1 ∧ 20 ≤ y) ∨ (pl t n (nd t n - 1) = 2 ∧ y ≤ 18)) : qI (va_up t n y) (n + 1) := by
  refine ⟨by omega, fun i => ?_, fun i hi => ?_⟩
  · by_cases c : i = n
    · rw [c, va_up_self]; exact hy
    · rw [va_up_ne _ _ c]; exact h.2.1 i
  · rw [nd_up i (by omega), pl_up i _ (by omega)]
    rcases Nat.lt_succ_iff_lt_or_eq.mp hi with q | q
    · rw [va_up_ne _ _ (by omega)]; exact h.2.2 i q
    · rw [q, va_up_self]; exact ⟨h0, hk⟩
theorem qI_sub {t : Nat → Nat} {n : Nat} (h : qI t n) : qI t (n - 1) := ⟨by have := h.1; omega, h.2.1, fun i hi => h.2.2 i (by omega)⟩
theorem qI_0 : qI (fun _ => 0) 0 := ⟨by decide, fun _ => by show 0 < 24; decide, fun i hi => absurd hi (by omega)⟩
/-- the kinds of the parts of a token -/
theorem kid1 {t : Nat → Nat} {n k : Nat} (h : qI t n) (hk : k + 1 < n) (ha : 0 < ar (t k)) : (kd (t k) = 1 ∧ 20 ≤ t (k + 1)) ∨ (kd (t k) = 2 ∧ t (k + 1) ≤ 18) := by
  have h1 := (h.2.2 (k + 1) hk).2
  have h0 := (h.2.2 k (by omega)).1
  rw [pl_s, nd_s, if_pos (by omega)] at h1
  exact h1
theorem kid2 {t : Nat → Nat} {n k j : Nat} (h : qI t n) (hj : isSec t k j) (hjn : j < n) (ha : ar (t k) = 2) : (kd (t k) = 1 ∧ 20 ≤ t j) ∨ (kd (t k) = 2 ∧ t j ≤ 18) := by
  have h0 := (h.2.2 k (by have := hj.1; omega)).1
  have key : ∀ m, k + 1 + m ≤ j → pl t (k + 1 + m) (nd t k - 1) = kd (t k) := by
    intro m
    induction m with
    | zero => intro _; rw [Nat.add_zero, pl_s, if_pos (by omega)]
    | succ m ih =>
      intro hm
      have h2 := hj.2.2 (k + 1 + m) (by omega) (by omega)
      rw [show k + 1 + (m + 1) = k + 1 + m + 1 by omega, pl_s, if_neg (by omega)]
      exact ih (by omega)
  have h1 := (h.2.2 j hjn).2
  have h3 := key (j - (k + 1)) (by have := hj.1; omega)
  rw [show k + 1 + (j - (k + 1)) = j by have := hj.1; omega] at h3
  rw [hj.2.1, h3] at h1
  exact h1
/-- a whole query: a token that wants parts isn't the last -/
theorem kid_lt {t : Nat → Nat} {n k : Nat} (h : qI t n) (hn : nd t n = 0) (hk : k < n) (ha : 0 < ar (t k)) : k + 1 < n := by
  refine Classical.byContradiction fun c => ?_
  have e : n = k + 1 := by omega
  rw [e, nd_s] at hn
  omega
theorem thf_congr {fr ds : Nat} {r r' : Nat → Nat} (h : ∀ b, b < 24 → r b = r' b) : ∀ m, m + ds ≤ 24 → thf fr r ds m = thf fr r' ds m
  | 0, _ => rfl
  | m + 1, hm => by rw [thf, thf, thf_congr h m (by omega), h (m + ds) (by omega)]
theorem mxf_congr {r r' : Nat → Nat} (h : ∀ b, b < 24 → r b = r' b) : ∀ m, m ≤ 24 → mxf r m = mxf r' m
  | 0, _ => rfl
  | m + 1, hm => by rw [mxf, mxf, mxf_congr h m (by omega), h m (by omega)]
theorem anf_congr {r r' : Nat → Nat} (h : ∀ b, b < 24 → r b = r' b) : ∀ m, m ≤ 24 → anf r m = anf r' m
  | 0, _ => rfl
  | m + 1, hm => by rw [anf, anf, anf_congr h m (by omega), h m (by omega)]
theorem spf_congr {r r' : Nat → Nat} (h : ∀ b, b < 24 → r b = r' b) : ∀ m, m ≤ 24 → spf r m = spf r' m
  | 0, _ => rfl
  | m + 1, hm => by rw [spf, spf, spf_congr h m (by omega), h m (by omega)]
theorem anf_0 {r : Nat → Nat} : ∀ m, anf r m = 0 ↔ ∀ b, b < m → r b = 0
  | 0 => ⟨fun _ b hb => absurd hb (by omega), fun _ => rfl⟩
  | m + 1 => by
    rw [anf, Nat.or_eq_zero_iff, anf_0 m]
    constructor
    · intro h b hb
      rcases Nat.lt_succ_iff_lt_or_eq.mp hb with q | q
      · exact h.1 b q
      · rw [q]; exact h.2
    · intro h
      exact ⟨fun b hb => h b (by omega), h m (by omega)⟩
end
section
/-! the documents of PhraseIndex, printed by gen/xdoc.py -/
set_option maxRecDepth 100000
/-- the sets of places are those of the text -/
def poF (z x o : Nat → Nat) : Prop := ∀ dd w, dd < 6 → w < 12 → ∀ p, (o (12 * dd + w)).testBit p = decide (p < z dd ∧ x (24 * dd + p) = w)
theorem sh1_bit (p q : Nat) : (1 <<< p).testBit q = decide (p = q) := by rw [Nat.one_shiftLeft, Nat.testBit_two_pow]
theorem poF_lt {z x o : Nat → Nat} (hz : ∀ i, z i ≤ 24) (h : poF z x o) {dd w : Nat} (hd : dd < 6) (hw : w < 12) : o (12 * dd + w) < 2 ^ 24 := by
  refine Nat.lt_pow_two_of_testBit _ fun i hi => ?_
  rw [h dd w hd hw]
  have := hz dd
  exact decide_eq_false (by omega)
theorem poF_write {z x o : Nat → Nat} {j w : Nat} (hz : ∀ i, z i ≤ 24) (h : poF z x o) (hj : j < 6) (hw : w < 12) (hp : z j < 24) : poF (va_up z j (z j + 1)) (va_up x (24 * j + z j) w) (va_up o (12 * j + w) (o (12 * j + w) ||| (1 <<< z j))) := by
  intro dd w' hd hw' q
  by_cases c : 12 * dd + w' = 12 * j + w
  · have e1 : dd = j := by omega
    have e2 : w' = w := by omega
    subst e1; subst e2
    rw [va_up_self, Nat.testBit_or, h dd w' hd hw', sh1_bit, va_up_self, Bool.eq_iff_iff, Bool.or_eq_true, decide_eq_true_iff, decide_eq_true_iff, decide_eq_true_iff]
    by_cases e : q = z dd
    · subst e
      rw [va_up_self]
      exact ⟨fun _ => ⟨by omega, rfl⟩, fun _ => Or.inr rfl⟩
    · rw [va_up_ne _ _ (show 24 * dd + q ≠ 24 * dd + z dd by omega)]
      exact ⟨fun r => by rcases r with r | r; exact ⟨by omega, r.2⟩; omega, fun r => Or.inl ⟨by omega, r.2⟩⟩
  · rw [va_up_ne _ _ c, h dd w' hd hw', Bool.eq_iff_iff, decide_eq_true_iff, decide_eq_true_iff]
    have hzd := hz dd
    by_cases e1 : dd = j
    · subst e1
      rw [va_up_self]
      by_cases e : q = z dd
      · subst e
        rw [va_up_self]
        exact ⟨fun r => by omega, fun r => by omega⟩
      · rw [va_up_ne _ _ (show 24 * dd + q ≠ 24 * dd + z dd by omega)]
        exact ⟨fun r => ⟨by omega, r.2⟩, fun r => ⟨by omega, r.2⟩⟩
    · rw [va_up_ne _ _ e1]
      by_cases e : q < z dd
      · rw [va_up_ne _ _ (show 24 * dd + q ≠ 24 * j + z j by omega)]
      · exact ⟨fun r => absurd r.1 e, fun r => absurd r.1 e⟩
theorem clr_bit (a p q : Nat) (hq : q < 24) : (a &&& ((1 <<< p) ^^^ 4294967295)).testBit q = (a.testBit q && !decide (p = q)) := by
  rw [Nat.testBit_and, Nat.testBit_xor, sh1_bit, show (4294967295 : Nat) = 2 ^ 32 - 1 from rfl, Nat.testBit_two_pow_sub_one, decide_eq_true (show q < 32 by omega), Bool.xor_true]
theorem poF_change {z x o o1 : Nat → Nat} {j p w : Nat} (hz : ∀ i, z i ≤ 24) (hx : ∀ i, x i < 12) (h : poF z x o) (hj : j < 6) (hw : w < 12) (hp : p < z j)
    (e1 : o1 = va_up o (12 * j + x (24 * j + p)) (o (12 * j + x (24 * j + p)) &&& ((1 <<< p) ^^^ 4294967295))) : poF z (va_up x (24 * j + p) w) (va_up o1 (12 * j + w) (o1 (12 * j + w) ||| (1 <<< p))) := by
  have hold := hx (24 * j + p)
  have hzj := hz j
  have k1 : ∀ dd w', dd < 6 → w' < 12 → ∀ q, (o1 (12 * dd + w')).testBit q = decide ((q < z dd ∧ x (24 * dd + q) = w') ∧ ¬ (dd = j ∧ q = p)) := by
    intro dd w' hd hw' q
    have hzd := hz dd
    rw [e1]
    by_cases c : 12 * dd + w' = 12 * j + x (24 * j + p)
    · have e1 : dd = j := by omega
      have e2 : w' = x (24 * j + p) := by omega
      rw [c, va_up_self]
      by_cases hq : q < 24
      · rw [clr_bit _ _ _ hq, ← c, h dd w' hd hw', Bool.eq_iff_iff, Bool.and_eq_true, Bool.not_eq_true', decide_eq_true_iff, decide_eq_false_iff_not, decide_eq_true_iff]
        exact ⟨fun r => ⟨r.1, by omega⟩, fun r => ⟨r.1, by omega⟩⟩
      · rw [Nat.testBit_and, ← c, h dd w' hd hw', decide_eq_false (show ¬ (q < z dd ∧ x (24 * dd + q) = w') by omega), decide_eq_false (by omega)]
        rfl
    · rw [va_up_ne _ _ c, h dd w' hd hw', Bool.eq_iff_iff, decide_eq_true_iff, decide_eq_true_iff]
      refine ⟨fun r => ⟨r, fun s => ?_⟩, fun r => r.1⟩
      obtain ⟨s1, s2⟩ := s
      subst s1; subst s2
      exact c (by omega)
  intro dd w' hd hw' q
  have hzd := hz dd
  by_cases c : 12 * dd + w' = 12 * j + w
  · have e1 : dd = j := by omega
    have e2 : w' = w := by omega
    subst e1; subst e2
    rw [va_up_self, Nat.testBit_or, k1 dd w' hd hw', sh1_bit, Bool.eq_iff_iff, Bool.or_eq_true, decide_eq_true_iff, decide_eq_true_iff, decide_eq_true_iff]
    by_cases e : q = p
    · subst e
      rw [va_up_self]
      exact ⟨fun _ => ⟨by omega, rfl⟩, fun _ => Or.inr rfl⟩
    · rw [va_up_ne _ _ (show 24 * dd + q ≠ 24 * dd + p by omega)]
      exact ⟨fun r => by rcases r with r | r; exact r.1; omega, fun r => Or.inl ⟨r, by omega⟩⟩
  · rw [va_up_ne _ _ c, k1 dd w' hd hw', Bool.eq_iff_iff, decide_eq_true_iff, decide_eq_true_iff]
    by_cases e : dd = j ∧ q = p
    · obtain ⟨s1, s2⟩ := e
      subst s1; subst s2
      rw [va_up_self]
      exact ⟨fun r => absurd ⟨rfl, rfl⟩ r.2, fun r => by omega⟩
    · by_cases e2 : q < z dd
      · rw [va_up_ne _ _ (show 24 * dd + q ≠ 24 * j + p by omega)]
        exact ⟨fun r => r.1, fun r => ⟨r, e⟩⟩
      · exact ⟨fun r => absurd r.1.1 e2, fun r => absurd r.1 e2⟩
theorem poF_erase {z x o o' : Nat → Nat} {j : Nat} (h : poF z x o) (hj : j < 6) (e : ∀ i, o' i = if 12 * j ≤ i ∧ i < 12 * j + 12 then 0 else o i) : poF (va_up z j 0) x o' := by
  intro dd w hd hw q
  rw [e]
  by_cases c : dd = j
  · subst c
    rw [if_pos (by omega), va_up_self, Nat.zero_testBit]
    exact (decide_eq_false (by omega)).symm
  · rw [if_neg (by omega), va_up_ne _ _ c]
    exact h dd w hd hw q
/-- the invariant of PhraseIndex -/
def xI (u : gU) : Prop := (∀ i, u 0 i ≤ 24) ∧ (∀ i, u 1 i < 12) ∧ poF (u 0) (u 1) (u 2) ∧ qI (u 3) (u 4 0)
/-- what the methods on documents answer and do -/
def wrF (z x : Nat → Nat) (a b : Int32) : Int32 × (Nat → Nat) × (Nat → Nat) := if ix 6 a < 6 ∧ ix 12 b < 12 then (if z (ix 6 a) < 24 then (nI (z (ix 6 a)), va_up z (ix 6 a) (z (ix 6 a) + 1), va_up x (24 * ix 6 a + z (ix 6 a)) (ix 12 b)) else (-2, z, x)) else (-1, z, x)
def chF (z x : Nat → Nat) (a p b : Int32) : Int32 × (Nat → Nat) := if ix 6 a < 6 ∧ ix (z (ix 6 a)) p < z (ix 6 a) ∧ ix 12 b < 12 then (nI 1, va_up x (24 * ix 6 a + ix (z (ix 6 a)) p) (ix 12 b)) else (nI 0, x)
def erF (z : Nat → Nat) (a : Int32) : Int32 × (Nat → Nat) := if ix 6 a < 6 then (nI 1, va_up z (ix 6 a) 0) else (nI 0, z)
def leF (z : Nat → Nat) (a : Int32) : Int32 := if ix 6 a < 6 then nI (z (ix 6 a)) else -1
/-- which of the documents below m hold w; how often -/
def hit (z x : Nat → Nat) (dd w m : Nat) : Prop := ∃ p, p < m ∧ p < z dd ∧ x (24 * dd + p) = w
noncomputable def hvf (z x : Nat → Nat) (w : Nat) : Nat → Nat
  | 0 => 0
  | dd + 1 => hvf z x w dd ||| (@ite _ (hit z x dd w 24) (Classical.propDecidable _) (1 <<< dd) 0)
def cnf (z x : Nat → Nat) (dd w : Nat) : Nat → Nat
  | 0 => 0
  | p + 1 => cnf z x dd w p + bN (p < z dd ∧ x (24 * dd + p) = w)
def frf (z x : Nat → Nat) (w : Nat) : Nat → Nat
  | 0 => 0
  | dd + 1 => frf z x w dd + cnf z x dd w 24
theorem cnf_le (z x : Nat → Nat) (dd w : Nat) : ∀ m, cnf z x dd w m ≤ m
  | 0 => Nat.le_refl _
  | m + 1 => by
    have := cnf_le z x dd w m
    have := bN_2 (m < z dd ∧ x (24 * dd + m) = w)
    show cnf z x dd w m + _ ≤ _
    omega
theorem frf_le (z x : Nat → Nat) (w : Nat) : ∀ m, frf z x w m ≤ 24 * m
  | 0 => Nat.le_refl _
  | m + 1 => by
    have := frf_le z x w m
    have := cnf_le z x m w 24
    show frf z x w m + _ ≤ _
    omega
theorem onf_cnf {z x o : Nat → Nat} (h : poF z x o) {dd w : Nat} (hd : dd < 6) (hw : w < 12) : ∀ m, onf (o (12 * dd + w)) m = cnf z x dd w m
  | 0 => rfl
  | m + 1 => by
    rw [onf, cnf, onf_cnf h hd hw m, bt_m, h dd w hd hw]
    congr 1
    by_cases c : m < z dd ∧ x (24 * dd + m) = w
    · rw [bN_t c, bN_t (decide_eq_true c)]
    · rw [bN_f c, bN_f (by rw [decide_eq_false c]; decide)]
theorem po_hit {z x o : Nat → Nat} (hz : ∀ i, z i ≤ 24) (h : poF z x o) {dd w : Nat} (hd : dd < 6) (hw : w < 12) : o (12 * dd + w) ≠ 0 ↔ hit z x dd w 24 := by
  have hzd := hz dd
  constructor
  · intro q
    refine Classical.byContradiction fun c => q ?_
    refine Nat.eq_of_testBit_eq fun i => ?_
    rw [h dd w hd hw, Nat.zero_testBit]
    exact decide_eq_false fun r => c ⟨i, by omega, r⟩
  · rintro ⟨p, hp, r⟩ q
    have := h dd w hd hw p
    rw [q, Nat.zero_testBit, decide_eq_true r] at this
    cases this
set_option maxHeartbeats 4000000 in
theorem mX_write (l : Launch) (D : va_G) (h : Nat → Nat) (d : Nat → ClassId) (u : gU) (a b : Int32) (hI : xI u) : gMi l yX0_write cX0_write 4 .int (rk 1) D (xL h d) (xT d) [.ref (h 0), .int a, .int b] u (fun r u' => (r, u' 0, u' 1) = wrF (u 0) (u 1) a b ∧ u' 3 = u 3 ∧ u' 4 = u 4 ∧ xI u') := by
  refine gMi_of (by decide) (Nat.le_of_ble_eq_true rfl) ?_
  intro p e s m args below meth c A Q ls S hw hl hret
  have S : CallFix p m c cX0_write 4 s args lw_all RX0 := S
  have hl : lv_has ls 4 [(0, .ref (h 0)), (1, .int a), (2, .int b)] := hl
  refine lv_iload_n S.1 S.2.1 dX0_write_0 rfl (lv_at hl 1 rfl) ?_
  refine g_calls (As := [.int a]) (rest := []) S hw (mX_isDocument l D h d u a) (cw_X0_X0_isDocument S.2.2.2.2 ⟨by decide, by decide⟩) rfl hl.1 rfl (Nat.le_of_ble_eq_true rfl) dX0_write_1 ⟨Nat.zero_le _, Nat.zero_le _⟩ (fun r1 u1 H locs hp1 hw => ?_)
  obtain ⟨rfl, rfl⟩ := hp1
  refine n_if_eq (tgt := 14) S (by exact bN_lt _) dX0_write_4 (by decide) (fun c4 => ?_) (fun c4 => ?_)
  · refine lv_iconst (v := (-1)) S.1 S.2.1 dX0_write_14 (by decide) ?_
    exact hret _ _ dX0_write_15 rfl ⟨by unfold wrF; rw [if_neg (fun q => bN_0 c4 q.1)], rfl, rfl, hI⟩ hw
  · obtain ⟨j, hj, rfl, hj'⟩ := ix_lt (bN_1 c4)
    refine lv_iload_n S.1 S.2.1 dX0_write_7 rfl (lv_at hl 2 rfl) ?_
    refine g_calls (As := [.int b]) (rest := []) S hw (mX_isWord l D h d u b) (cw_X0_X0_isWord S.2.2.2.2 ⟨by decide, by decide⟩) rfl hl.1 rfl (Nat.le_of_ble_eq_true rfl) dX0_write_8 ⟨Nat.zero_le _, Nat.zero_le _⟩ (fun r2 u2 H locs hp2 hw => ?_)
    obtain ⟨rfl, rfl⟩ := hp2
    refine n_if_ne (tgt := 16) S (by exact bN_lt _) dX0_write_11 (by decide) (fun c11 => ?_) (fun c11 => ?_)
    · obtain ⟨k, hk, rfl, hk'⟩ := ix_lt (bN_1 c11)
      have hz := hI.1 j
      refine lv_aload_n S.1 S.2.1 dX0_write_16 rfl (lv_at hl 0 rfl) ?_
      refine x_g0 S hw dX0_write_17 ?_
      refine lv_iload_n S.1 S.2.1 dX0_write_20 rfl (lv_at hl 1 rfl) ?_
      refine x_l0 S hw (by omega) dX0_write_21 ?_
      refine lv_bipush (v := nI 24) S.1 S.2.1 dX0_write_22 (by decide) ?_
      refine n_icmp_lt (tgt := 30) S (by have := hI.1 j; omega) (by omega) dX0_write_24 (by decide) (fun c24 => ?_) (fun c24 => ?_)
      · refine lv_aload_n S.1 S.2.1 dX0_write_30 rfl (lv_at hl 0 rfl) ?_
        refine x_g0 S hw dX0_write_31 ?_
        refine lv_iload_n S.1 S.2.1 dX0_write_34 rfl (lv_at hl 1 rfl) ?_
        refine x_l0 S hw (by omega) dX0_write_35 ?_
        refine lv_istore_n (lv' := [(3, .int (nI (u 0 j))), (0, .ref (h 0)), (1, .int (nI j)), (2, .int (nI k))]) S.1 S.2.1 dX0_write_36 rfl hl (by decide) rfl (fun ls hl => ?_)
        refine lv_aload_n S.1 S.2.1 dX0_write_37 rfl (lv_at hl 1 rfl) ?_
        refine x_g1 S hw dX0_write_38 ?_
        refine lv_iload_n S.1 S.2.1 dX0_write_41 rfl (lv_at hl 2 rfl) ?_
        refine lv_bipush (v := nI 24) S.1 S.2.1 dX0_write_42 (by decide) ?_
        refine n_imulc S dX0_write_44 ?_
        refine lv_iload_n S.1 S.2.1 dX0_write_45 rfl (lv_at hl 0 rfl) ?_
        refine n_iadd S dX0_write_46 ?_
        refine lv_iload_n S.1 S.2.1 dX0_write_47 rfl (lv_at hl 3 rfl) ?_
        refine n_i2b S (by omega) dX0_write_48 ?_
        refine x_s1 S hw (by have := hI.1 j; omega) (by omega) dX0_write_49 (fun u3 eu3 H locs hw => ?_)
        refine lv_aload_n S.1 S.2.1 dX0_write_50 rfl (lv_at hl 1 rfl) ?_
        refine x_g2 S hw dX0_write_51 ?_
        refine lv_iload_n S.1 S.2.1 dX0_write_54 rfl (lv_at hl 2 rfl) ?_
        refine lv_bipush (v := nI 12) S.1 S.2.1 dX0_write_55 (by decide) ?_
        refine n_imulc S dX0_write_57 ?_
        refine lv_iload_n S.1 S.2.1 dX0_write_58 rfl (lv_at hl 3 rfl) ?_
        refine n_iadd S dX0_write_59 ?_
        refine lv_dup2_11 S.1 S.2.1 dX0_write_60 rfl rfl ?_
        refine x_l2 S hw (by omega) dX0_write_61 ?_
        refine lv_iconst (v := nI 1) S.1 S.2.1 dX0_write_62 (by decide) ?_
        refine lv_iload_n S.1 S.2.1 dX0_write_63 rfl (lv_at hl 0 rfl) ?_
        refine n_ishl S (by have := hI.1 j; omega) dX0_write_64 ?_
        refine n_ior S dX0_write_65 ?_
        refine x_s2 S hw (by omega) dX0_write_66 (fun u4 eu4 H locs hw => ?_)
        have y0 : u4 0 j = u 0 j := by rw [eu4, gup_n _ _ _ (by decide), eu3, gup_n _ _ _ (by decide)]
        refine lv_aload_n S.1 S.2.1 dX0_write_67 rfl (lv_at hl 1 rfl) ?_
        refine x_g0 S hw dX0_write_68 ?_
        refine lv_iload_n S.1 S.2.1 dX0_write_71 rfl (lv_at hl 2 rfl) ?_
        refine lv_dup2_11 S.1 S.2.1 dX0_write_72 rfl rfl ?_
        refine x_l0 S hw (by omega) dX0_write_73 ?_
        refine lv_iconst (v := nI 1) S.1 S.2.1 dX0_write_74 (by decide) ?_
        refine n_iadd S dX0_write_75 ?_
        refine n_i2b S (by rw [y0]; omega) dX0_write_76 ?_
        refine x_s0 S hw (by omega) (by omega) dX0_write_77 (fun u5 eu5 H locs hw => ?_)
        refine lv_iload_n S.1 S.2.1 dX0_write_78 rfl (lv_at hl 0 rfl) ?_
        have f0 : u5 0 = va_up (u 0) j (u 0 j + 1) := by rw [eu5, gup_s, y0, eu4, gup_n _ _ _ (by decide), eu3, gup_n _ _ _ (by decide)]
        have f1 : u5 1 = va_up (u 1) (24 * j + u 0 j) k := by rw [eu5, gup_n _ _ _ (by decide), eu4, gup_n _ _ _ (by decide), eu3, gup_s]
        have f2 : u5 2 = va_up (u 2) (12 * j + k) (u 2 (12 * j + k) ||| (1 <<< u 0 j)) := by rw [eu5, gup_n _ _ _ (by decide), eu4, gup_s, eu3, gup_n _ _ _ (by decide)]
        have f3 : u5 3 = u 3 := by rw [eu5, gup_n _ _ _ (by decide), eu4, gup_n _ _ _ (by decide), eu3, gup_n _ _ _ (by decide)]
        have f4 : u5 4 = u 4 := by rw [eu5, gup_n _ _ _ (by decide), eu4, gup_n _ _ _ (by decide), eu3, gup_n _ _ _ (by decide)]
        refine hret _ _ dX0_write_79 rfl ⟨?_, f3, f4, ?_⟩ hw
        · unfold wrF; rw [ix_in hj' hj, ix_in hk' hk, if_pos ⟨hj, hk⟩, if_pos (by omega), f0, f1]
        · refine ⟨fun i => ?_, fun i => ?_, ?_, ?_⟩
          · rw [f0]
            by_cases q : i = j
            · rw [q, va_up_self]; omega
            · rw [va_up_ne _ _ q]; exact hI.1 i
          · rw [f1]
            by_cases q : i = 24 * j + u 0 j
            · rw [q, va_up_self]; exact hk
            · rw [va_up_ne _ _ q]; exact hI.2.1 i
          · rw [f0, f1, f2]; exact poF_write hI.1 hI.2.2.1 hj hk (by omega)
          · rw [f3, f4]; exact hI.2.2.2
      · refine lv_bipush (v := (-2)) S.1 S.2.1 dX0_write_27 (by decide) ?_
        exact hret _ _ dX0_write_29 rfl ⟨by unfold wrF; rw [ix_in hj' hj, ix_in hk' hk, if_pos ⟨hj, hk⟩, if_neg (by omega)], rfl, rfl, hI⟩ hw
    · refine lv_iconst (v := (-1)) S.1 S.2.1 dX0_write_14 (by decide) ?_
      exact hret _ _ dX0_write_15 rfl ⟨by unfold wrF; rw [if_neg (fun q => bN_0 c11 q.2)], rfl, rfl, hI⟩ hw
noncomputable def hvF (z x : Nat → Nat) (b : Int32) : Int32 := if ix 12 b < 12 then nI (hvf z x (ix 12 b) 6) else nI 0
def frF (z x : Nat → Nat) (b : Int32) : Int32 := if ix 12 b < 12 then nI (frf z x (ix 12 b) 6) else nI 0
set_option maxHeartbeats 4000000 in
theorem mX_length (l : Launch) (D : va_G) (h : Nat → Nat) (d : Nat → ClassId) (u : gU) (a : Int32) : gMi l yX0_length cX0_length 2 .int (rk 1) D (xL h d) (xT d) [.ref (h 0), .int a] u (fun r u' => r = leF (u 0) a ∧ u = u') := by
  refine gMi_of (by decide) (Nat.le_of_ble_eq_true rfl) ?_
  intro p e s m args below meth c A Q ls S hw hl hret
  have S : CallFix p m c cX0_length 2 s args lw_all RX0 := S
  have hl : lv_has ls 2 [(0, .ref (h 0)), (1, .int a)] := hl
  refine lv_iload_n S.1 S.2.1 dX0_length_0 rfl (lv_at hl 1 rfl) ?_
  refine g_calls (As := [.int a]) (rest := []) S hw (mX_isDocument l D h d u a) (cw_X0_X0_isDocument S.2.2.2.2 ⟨by decide, by decide⟩) rfl hl.1 rfl (Nat.le_of_ble_eq_true rfl) dX0_length_1 ⟨Nat.zero_le _, Nat.zero_le _⟩ (fun r1 u1 H locs hp1 hw => ?_)
  obtain ⟨rfl, rfl⟩ := hp1
  refine n_if_eq (tgt := 16) S (by exact bN_lt _) dX0_length_4 (by decide) (fun c4 => ?_) (fun c4 => ?_)
  · refine lv_iconst (v := (-1)) S.1 S.2.1 dX0_length_16 (by decide) ?_
    exact hret _ _ dX0_length_17 rfl (⟨by unfold leF; rw [if_neg (bN_0 c4)], rfl⟩) hw
  · obtain ⟨j, hj, rfl, hj'⟩ := ix_lt (bN_1 c4)
    refine lv_aload_n S.1 S.2.1 dX0_length_7 rfl (lv_at hl 0 rfl) ?_
    refine x_g0 S hw dX0_length_8 ?_
    refine lv_iload_n S.1 S.2.1 dX0_length_11 rfl (lv_at hl 1 rfl) ?_
    refine x_l0 S hw (by omega) dX0_length_12 ?_
    refine lv_goto (tgt := 17) S.1 S.2.1 dX0_length_13 (by decide) ?_
    exact hret _ _ dX0_length_17 rfl (⟨by unfold leF; rw [ix_in hj' hj, if_pos hj], rfl⟩) hw
set_option maxHeartbeats 4000000 in
theorem mX_change (l : Launch) (D : va_G) (h : Nat → Nat) (d : Nat → ClassId) (u : gU) (a g b : Int32) (hI : xI u) : gMi l yX0_change cX0_change 5 .boolean (rk 1) D (xL h d) (xT d) [.ref (h 0), .int a, .int g, .int b] u (fun r u' => (r, u' 1) = chF (u 0) (u 1) a g b ∧ u' 0 = u 0 ∧ u' 3 = u 3 ∧ u' 4 = u 4 ∧ xI u') := by
  refine gMi_of (by decide) (Nat.le_of_ble_eq_true rfl) ?_
  intro p e s m args below meth c A Q ls S hw hl hret
  have S : CallFix p m c cX0_change 5 s args lw_all RX0 := S
  have hl : lv_has ls 5 [(0, .ref (h 0)), (1, .int a), (2, .int g), (3, .int b)] := hl
  refine lv_iload_n S.1 S.2.1 dX0_change_0 rfl (lv_at hl 1 rfl) ?_
  refine g_calls (As := [.int a]) (rest := []) S hw (mX_isDocument l D h d u a) (cw_X0_X0_isDocument S.2.2.2.2 ⟨by decide, by decide⟩) rfl hl.1 rfl (Nat.le_of_ble_eq_true rfl) dX0_change_1 ⟨Nat.zero_le _, Nat.zero_le _⟩ (fun r1 u1 H locs hp1 hw => ?_)
  obtain ⟨rfl, rfl⟩ := hp1
  refine n_if_eq (tgt := 28) S (by exact bN_lt _) dX0_change_4 (by decide) (fun c4 => ?_) (fun c4 => ?_)
  · refine lv_iconst (v := nI 0) S.1 S.2.1 dX0_change_28 (by decide) ?_
    exact hret _ _ dX0_change_29 (nI_zn _ (by decide)) ⟨by unfold chF; rw [if_neg (fun q => bN_0 c4 q.1)], rfl, rfl, rfl, hI⟩ hw
  · obtain ⟨j, hj, rfl, hj'⟩ := ix_lt (bN_1 c4)
    refine lv_iload_n S.1 S.2.1 dX0_change_7 rfl (lv_at hl 2 rfl) ?_
    refine lv_if_lt (tgt := 28) S.1 S.2.1 dX0_change_8 (by decide) (fun c8 => ?_) (fun c8 => ?_)
    · refine lv_iconst (v := nI 0) S.1 S.2.1 dX0_change_28 (by decide) ?_
      exact hret _ _ dX0_change_29 (nI_zn _ (by decide)) ⟨by unfold chF; rw [if_neg (fun q => by have z := q.2.1; rw [ix_neg c8] at z; omega)], rfl, rfl, rfl, hI⟩ hw
    · obtain ⟨po, hp', rfl⟩ := nI_of c8
      refine lv_iload_n S.1 S.2.1 dX0_change_11 rfl (lv_at hl 2 rfl) ?_
      refine lv_aload_n S.1 S.2.1 dX0_change_12 rfl (lv_at hl 0 rfl) ?_
      refine x_g0 S hw dX0_change_13 ?_
      refine lv_iload_n S.1 S.2.1 dX0_change_16 rfl (lv_at hl 1 rfl) ?_
      refine x_l0 S hw (by omega) dX0_change_17 ?_
      refine n_icmp_ge (tgt := 28) S (by omega) (by have := hI.1 j; omega) dX0_change_18 (by decide) (fun c18 => ?_) (fun c18 => ?_)
      · refine lv_iconst (v := nI 0) S.1 S.2.1 dX0_change_28 (by decide) ?_
        exact hret _ _ dX0_change_29 (nI_zn _ (by decide)) ⟨by unfold chF; rw [if_neg (fun q => by have z := q.2.1; rw [ix_in hj' hj, ix_nI hp'] at z; omega)], rfl, rfl, rfl, hI⟩ hw
      · refine lv_iload_n S.1 S.2.1 dX0_change_21 rfl (lv_at hl 3 rfl) ?_
        refine g_calls (As := [.int b]) (rest := []) S hw (mX_isWord l D h d u b) (cw_X0_X0_isWord S.2.2.2.2 ⟨by decide, by decide⟩) rfl hl.1 rfl (Nat.le_of_ble_eq_true rfl) dX0_change_22 ⟨Nat.zero_le _, Nat.zero_le _⟩ (fun r2 u2 H locs hp2 hw => ?_)
        obtain ⟨rfl, rfl⟩ := hp2
        refine n_if_ne (tgt := 30) S (by exact bN_lt _) dX0_change_25 (by decide) (fun c25 => ?_) (fun c25 => ?_)
        · obtain ⟨k, hk, rfl, hk'⟩ := ix_lt (bN_1 c25)
          refine lv_aload_n S.1 S.2.1 dX0_change_30 rfl (lv_at hl 0 rfl) ?_
          refine x_g1 S hw dX0_change_31 ?_
          refine lv_iload_n S.1 S.2.1 dX0_change_34 rfl (lv_at hl 1 rfl) ?_
          refine lv_bipush (v := nI 24) S.1 S.2.1 dX0_change_35 (by decide) ?_
          refine n_imulc S dX0_change_37 ?_
          refine lv_iload_n S.1 S.2.1 dX0_change_38 rfl (lv_at hl 2 rfl) ?_
          refine n_iadd S dX0_change_39 ?_
          refine x_l1 S hw (by have := hI.1 j; omega) dX0_change_40 ?_
          refine lv_istore (lv' := [(4, .int (nI (u 1 ((24 * j) + po)))), (0, .ref (h 0)), (1, .int (nI j)), (2, .int (nI po)), (3, .int (nI k))]) S.1 S.2.1 dX0_change_41 hl (by decide) rfl (fun ls hl => ?_)
          refine lv_aload_n S.1 S.2.1 dX0_change_43 rfl (lv_at hl 1 rfl) ?_
          refine x_g2 S hw dX0_change_44 ?_
          refine lv_iload_n S.1 S.2.1 dX0_change_47 rfl (lv_at hl 2 rfl) ?_
          refine lv_bipush (v := nI 12) S.1 S.2.1 dX0_change_48 (by decide) ?_
          refine n_imulc S dX0_change_50 ?_
          refine lv_iload S.1 S.2.1 dX0_change_51 (lv_at hl 0 rfl) ?_
          refine n_iadd S dX0_change_53 ?_
          refine lv_dup2_11 S.1 S.2.1 dX0_change_54 rfl rfl ?_
          refine x_l2 S hw (by have := hI.2.1 (24 * j + po); omega) dX0_change_55 ?_
          refine lv_iconst (v := nI 1) S.1 S.2.1 dX0_change_56 (by decide) ?_
          refine lv_iload_n S.1 S.2.1 dX0_change_57 rfl (lv_at hl 3 rfl) ?_
          refine n_ishl S (by have := hI.1 j; omega) dX0_change_58 ?_
          refine lv_iconst (v := nI 4294967295) S.1 S.2.1 dX0_change_59 (by decide) ?_
          refine n_ixor S dX0_change_60 ?_
          refine n_iand S dX0_change_61 ?_
          refine x_s2 S hw (by have := hI.2.1 (24 * j + po); omega) dX0_change_62 (fun u3 eu3 H locs hw => ?_)
          refine lv_aload_n S.1 S.2.1 dX0_change_63 rfl (lv_at hl 1 rfl) ?_
          refine x_g1 S hw dX0_change_64 ?_
          refine lv_iload_n S.1 S.2.1 dX0_change_67 rfl (lv_at hl 2 rfl) ?_
          refine lv_bipush (v := nI 24) S.1 S.2.1 dX0_change_68 (by decide) ?_
          refine n_imulc S dX0_change_70 ?_
          refine lv_iload_n S.1 S.2.1 dX0_change_71 rfl (lv_at hl 3 rfl) ?_
          refine n_iadd S dX0_change_72 ?_
          refine lv_iload_n S.1 S.2.1 dX0_change_73 rfl (lv_at hl 4 rfl) ?_
          refine n_i2b S (by omega) dX0_change_74 ?_
          refine x_s1 S hw (by have := hI.1 j; omega) (by omega) dX0_change_75 (fun u4 eu4 H locs hw => ?_)
          refine lv_aload_n S.1 S.2.1 dX0_change_76 rfl (lv_at hl 1 rfl) ?_
          refine x_g2 S hw dX0_change_77 ?_
          refine lv_iload_n S.1 S.2.1 dX0_change_80 rfl (lv_at hl 2 rfl) ?_
          refine lv_bipush (v := nI 12) S.1 S.2.1 dX0_change_81 (by decide) ?_
          refine n_imulc S dX0_change_83 ?_
          refine lv_iload_n S.1 S.2.1 dX0_change_84 rfl (lv_at hl 4 rfl) ?_
          refine n_iadd S dX0_change_85 ?_
          refine lv_dup2_11 S.1 S.2.1 dX0_change_86 rfl rfl ?_
          refine x_l2 S hw (by omega) dX0_change_87 ?_
          refine lv_iconst (v := nI 1) S.1 S.2.1 dX0_change_88 (by decide) ?_
          refine lv_iload_n S.1 S.2.1 dX0_change_89 rfl (lv_at hl 3 rfl) ?_
          refine n_ishl S (by have := hI.1 j; omega) dX0_change_90 ?_
          refine n_ior S dX0_change_91 ?_
          refine x_s2 S hw (by omega) dX0_change_92 (fun u5 eu5 H locs hw => ?_)
          refine lv_iconst (v := nI 1) S.1 S.2.1 dX0_change_93 (by decide) ?_
          have f1 : u5 1 = va_up (u 1) (24 * j + po) k := by rw [eu5, gup_n _ _ _ (by decide), eu4, gup_s, eu3, gup_n _ _ _ (by decide)]
          have g2 : u3 2 = va_up (u 2) (12 * j + u 1 (24 * j + po)) (u 2 (12 * j + u 1 (24 * j + po)) &&& ((1 <<< po) ^^^ 4294967295)) := by rw [eu3, gup_s]
          have f2 : u5 2 = va_up (u3 2) (12 * j + k) (u3 2 (12 * j + k) ||| (1 <<< po)) := by rw [eu5, gup_s, eu4, gup_n _ _ _ (by decide)]
          have f0 : u5 0 = u 0 := by rw [eu5, gup_n _ _ _ (by decide), eu4, gup_n _ _ _ (by decide), eu3, gup_n _ _ _ (by decide)]
          have f3 : u5 3 = u 3 := by rw [eu5, gup_n _ _ _ (by decide), eu4, gup_n _ _ _ (by decide), eu3, gup_n _ _ _ (by decide)]
          have f4 : u5 4 = u 4 := by rw [eu5, gup_n _ _ _ (by decide), eu4, gup_n _ _ _ (by decide), eu3, gup_n _ _ _ (by decide)]
          refine hret _ _ dX0_change_94 (nI_zn _ (by decide)) ⟨?_, f0, f3, f4, ?_⟩ hw
          · unfold chF; rw [ix_in hj' hj, ix_in hp' c18, ix_in hk' hk, if_pos ⟨hj, c18, hk⟩, f1]
          · refine ⟨fun i => ?_, fun i => ?_, ?_, ?_⟩
            · rw [f0]; exact hI.1 i
            · rw [f1]
              by_cases q : i = 24 * j + po
              · rw [q, va_up_self]; exact hk
              · rw [va_up_ne _ _ q]; exact hI.2.1 i
            · rw [f0, f1, f2]; exact poF_change hI.1 hI.2.1 hI.2.2.1 hj hk c18 g2
            · rw [f3, f4]; exact hI.2.2.2
        · refine lv_iconst (v := nI 0) S.1 S.2.1 dX0_change_28 (by decide) ?_
          exact hret _ _ dX0_change_29 (nI_zn _ (by decide)) ⟨by unfold chF; rw [if_neg (fun q => bN_0 c25 q.2.2)], rfl, rfl, rfl, hI⟩ hw
set_option maxHeartbeats 4000000 in
theorem mX_erase (l : Launch) (D : va_G) (h : Nat → Nat) (d : Nat → ClassId) (u : gU) (a : Int32) (hI : xI u) : gMi l yX0_erase cX0_erase 3 .boolean (rk 1) D (xL h d) (xT d) [.ref (h 0), .int a] u (fun r u' => (r, u' 0) = erF (u 0) a ∧ u' 1 = u 1 ∧ u' 3 = u 3 ∧ u' 4 = u 4 ∧ xI u') := by
  refine gMi_of (by decide) (Nat.le_of_ble_eq_true rfl) ?_
  intro p e s m args below meth c A Q ls S hw hl hret
  have S : CallFix p m c cX0_erase 3 s args lw_all RX0 := S
  have hl : lv_has ls 3 [(0, .ref (h 0)), (1, .int a)] := hl
  refine lv_iload_n S.1 S.2.1 dX0_erase_0 rfl (lv_at hl 1 rfl) ?_
  refine g_calls (As := [.int a]) (rest := []) S hw (mX_isDocument l D h d u a) (cw_X0_X0_isDocument S.2.2.2.2 ⟨by decide, by decide⟩) rfl hl.1 rfl (Nat.le_of_ble_eq_true rfl) dX0_erase_1 ⟨Nat.zero_le _, Nat.zero_le _⟩ (fun r1 u1 H locs hp1 hw => ?_)
  obtain ⟨rfl, rfl⟩ := hp1
  refine n_if_ne (tgt := 9) S (by exact bN_lt _) dX0_erase_4 (by decide) (fun c4 => ?_) (fun c4 => ?_)
  · obtain ⟨j, hj, rfl, hj'⟩ := ix_lt (bN_1 c4)
    refine lv_aload_n S.1 S.2.1 dX0_erase_9 rfl (lv_at hl 0 rfl) ?_
    refine x_g0 S hw dX0_erase_10 ?_
    refine lv_iload_n S.1 S.2.1 dX0_erase_13 rfl (lv_at hl 1 rfl) ?_
    refine lv_iconst (v := nI 0) S.1 S.2.1 dX0_erase_14 (by decide) ?_
    refine x_s0 S hw (by omega) (by omega) dX0_erase_15 (fun u2 eu2 H locs hw => ?_)
    refine lv_iconst (v := nI 0) S.1 S.2.1 dX0_erase_16 (by decide) ?_
    refine lv_istore_n (lv' := [(2, .int (nI 0)), (0, .ref (h 0)), (1, .int (nI j))]) S.1 S.2.1 dX0_erase_17 rfl hl (by decide) rfl (fun ls hl => ?_)
    have lp : ∀ (n : Nat) (i9 : Nat) (uu : gU), (i9 ≤ 12) → (13 ≤ i9 + n) → ((∀ a, a ≠ 2 → uu a = u2 a) ∧ ∀ i, uu 2 i = if 12 * j ≤ i ∧ i < 12 * j + i9 then 0 else u 2 i) → ∀ (H : Heap) (locs : List Loc) (ls : Array Slot), xW D h d A s H locs uu → lv_has ls 3 [(2, .int (nI i9)), (0, .ref (h 0)), (1, .int (nI j))] → W p l e (rk 1) s m args below meth c H locs 0 0 Q (F0 m 18 ls []) := by
      intro n
      induction n with
      | zero =>
        intro i9 uu hi hn hq
        exfalso; omega
      | succ n ih =>
        intro i9 uu hi hn hq H locs ls hw hl
        refine lv_iload_n S.1 S.2.1 dX0_erase_18 rfl (lv_at hl 0 rfl) ?_
        refine lv_bipush (v := nI 12) S.1 S.2.1 dX0_erase_19 (by decide) ?_
        refine n_icmp_ge (tgt := 42) S (by omega) (by omega) dX0_erase_21 (by decide) (fun c21 => ?_) (fun c21 => ?_)
        · refine lv_iconst (v := nI 1) S.1 S.2.1 dX0_erase_42 (by decide) ?_
          have f0 : uu 0 = va_up (u 0) j 0 := by rw [hq.1 0 (by decide), eu2, gup_s]
          have f1 : uu 1 = u 1 := by rw [hq.1 1 (by decide), eu2, gup_n _ _ _ (by decide)]
          have f3 : uu 3 = u 3 := by rw [hq.1 3 (by decide), eu2, gup_n _ _ _ (by decide)]
          have f4 : uu 4 = u 4 := by rw [hq.1 4 (by decide), eu2, gup_n _ _ _ (by decide)]
          refine hret _ _ dX0_erase_43 (nI_zn _ (by decide)) ⟨?_, f1, f3, f4, ?_⟩ hw
          · unfold erF; rw [ix_in hj' hj, if_pos hj, f0]
          · refine ⟨fun i => ?_, fun i => by rw [f1]; exact hI.2.1 i, ?_, by rw [f3, f4]; exact hI.2.2.2⟩
            · rw [f0]
              by_cases q : i = j
              · rw [q, va_up_self]; omega
              · rw [va_up_ne _ _ q]; exact hI.1 i
            · rw [f0, f1]
              refine poF_erase hI.2.2.1 hj (fun i => ?_)
              rw [hq.2 i, show i9 = 12 by omega]
        · refine lv_aload_n S.1 S.2.1 dX0_erase_24 rfl (lv_at hl 1 rfl) ?_
          refine x_g2 S hw dX0_erase_25 ?_
          refine lv_iload_n S.1 S.2.1 dX0_erase_28 rfl (lv_at hl 2 rfl) ?_
          refine lv_bipush (v := nI 12) S.1 S.2.1 dX0_erase_29 (by decide) ?_
          refine n_imulc S dX0_erase_31 ?_
          refine lv_iload_n S.1 S.2.1 dX0_erase_32 rfl (lv_at hl 0 rfl) ?_
          refine n_iadd S dX0_erase_33 ?_
          refine lv_iconst (v := nI 0) S.1 S.2.1 dX0_erase_34 (by decide) ?_
          refine x_s2 S hw (by omega) dX0_erase_35 (fun u3 eu3 H locs hw => ?_)
          refine n_iinc (k := 0) (lv' := [(2, .int (nI (i9 + 1))), (0, .ref (h 0)), (1, .int (nI j))]) S dX0_erase_36 hl rfl (by decide) rfl (fun ls hl => ?_)
          refine lv_goto (tgt := 18) S.1 S.2.1 dX0_erase_39 (by decide) ?_
          exact ih (i9 + 1) u3 (by omega) (by omega) (⟨fun a ha => by rw [eu3, gup_n _ _ _ ha]; exact hq.1 a ha, fun i => by rw [eu3, gup_s]; by_cases q : i = 12 * j + i9; (rw [q, va_up_self, if_pos (by omega)]); (rw [va_up_ne _ _ q, hq.2 i]; by_cases q2 : 12 * j ≤ i ∧ i < 12 * j + i9; (rw [if_pos q2, if_pos (by omega)]); (rw [if_neg q2, if_neg (by omega)]))⟩) _ _ _ hw (lv_sub hl [0, 1, 2] rfl)
    exact lp 13 0 u2 (by omega) (by omega) (⟨fun _ _ => rfl, fun i => by rw [if_neg (by omega), eu2, gup_n _ _ _ (by decide)]⟩) _ _ _ hw (lv_sub hl [0, 1, 2] rfl)
  · refine lv_iconst (v := nI 0) S.1 S.2.1 dX0_erase_7 (by decide) ?_
    exact hret _ _ dX0_erase_8 (nI_zn _ (by decide)) (⟨by unfold erF; rw [if_neg (bN_0 c4)], rfl, rfl, rfl, hI⟩) hw
set_option maxHeartbeats 4000000 in
theorem mX_having (l : Launch) (D : va_G) (h : Nat → Nat) (d : Nat → ClassId) (u : gU) (b : Int32) (hI : xI u) : gMi l yX0_having cX0_having 4 .int (rk 1) D (xL h d) (xT d) [.ref (h 0), .int b] u (fun r u' => r = hvF (u 0) (u 1) b ∧ u = u') := by
  refine gMi_of (by decide) (Nat.le_of_ble_eq_true rfl) ?_
  intro p e s m args below meth c A Q ls S hw hl hret
  have S : CallFix p m c cX0_having 4 s args lw_all RX0 := S
  have hl : lv_has ls 4 [(0, .ref (h 0)), (1, .int b)] := hl
  by_cases hb : ix 12 b < 12
  · obtain ⟨k, hk, rfl, hk'⟩ := ix_lt hb
    have hkk : ix 12 (nI k) < 12 := hb
    have lp : ∀ (n : Nat) (i v : Nat), (i ≤ 6) → (7 ≤ i + n) → (v = hvf (u 0) (u 1) k i) → ∀ (H : Heap) (locs : List Loc) (ls : Array Slot), xW D h d A s H locs u → lv_has ls 4 [(3, .int (nI i)), (2, .int (nI v)), (0, .ref (h 0)), (1, .int (nI k))] → W p l e (rk 1) s m args below meth c H locs 0 0 Q (F0 m 4 ls []) := by
      intro n
      induction n with
      | zero =>
        intro i v hi hn hv
        exfalso; omega
      | succ n ih =>
        intro i v hi hn hv H locs ls hw hl
        refine lv_iload_n S.1 S.2.1 dX0_having_4 rfl (lv_at hl 0 rfl) ?_
        refine lv_bipush (v := nI 6) S.1 S.2.1 dX0_having_5 (by decide) ?_
        refine n_icmp_ge (tgt := 47) S (by omega) (by omega) dX0_having_7 (by decide) (fun c7 => ?_) (fun c7 => ?_)
        · refine lv_iload_n S.1 S.2.1 dX0_having_47 rfl (lv_at hl 1 rfl) ?_
          exact hret _ _ dX0_having_48 rfl (⟨by unfold hvF; rw [if_pos hkk, ix_in hk' hk, hv, show i = 6 by omega], rfl⟩) hw
        · refine lv_iload_n S.1 S.2.1 dX0_having_10 rfl (lv_at hl 3 rfl) ?_
          refine g_calls (As := [.int (nI k)]) (rest := []) S hw (mX_isWord l D h d u (nI k)) (cw_X0_X0_isWord S.2.2.2.2 ⟨by decide, by decide⟩) rfl hl.1 rfl (Nat.le_of_ble_eq_true rfl) dX0_having_11 ⟨Nat.zero_le _, Nat.zero_le _⟩ (fun r1 u1 H locs hp1 hw => ?_)
          obtain ⟨rfl, rfl⟩ := hp1
          refine n_if_eq (tgt := 47) S (by exact bN_lt _) dX0_having_14 (by decide) (fun c14 => ?_) (fun c14 => ?_)
          · exact absurd hkk (bN_0 c14)
          · refine lv_iload_n S.1 S.2.1 dX0_having_17 rfl (lv_at hl 1 rfl) ?_
            refine lv_aload_n S.1 S.2.1 dX0_having_18 rfl (lv_at hl 2 rfl) ?_
            refine x_g2 S hw dX0_having_19 ?_
            refine lv_iload_n S.1 S.2.1 dX0_having_22 rfl (lv_at hl 0 rfl) ?_
            refine lv_bipush (v := nI 12) S.1 S.2.1 dX0_having_23 (by decide) ?_
            refine n_imulc S dX0_having_25 ?_
            refine lv_iload_n S.1 S.2.1 dX0_having_26 rfl (lv_at hl 3 rfl) ?_
            refine n_iadd S dX0_having_27 ?_
            refine x_l2 S hw (by omega) dX0_having_28 ?_
            refine n_if_eq (tgt := 38) S (by have := poF_lt hI.1 hI.2.2.1 (show i < 6 by omega) hk; omega) dX0_having_29 (by decide) (fun c29 => ?_) (fun c29 => ?_)
            · refine lv_iconst (v := nI 0) S.1 S.2.1 dX0_having_38 (by decide) ?_
              refine n_ior S dX0_having_39 ?_
              refine lv_istore_n (lv' := [(2, .int (nI (v ||| 0))), (3, .int (nI i)), (0, .ref (h 0)), (1, .int (nI k))]) S.1 S.2.1 dX0_having_40 rfl hl (by decide) rfl (fun ls hl => ?_)
              refine n_iinc (k := 1) (lv' := [(3, .int (nI (i + 1))), (2, .int (nI (v ||| 0))), (0, .ref (h 0)), (1, .int (nI k))]) S dX0_having_41 hl rfl (by decide) rfl (fun ls hl => ?_)
              refine lv_goto (tgt := 4) S.1 S.2.1 dX0_having_44 (by decide) ?_
              exact ih (i + 1) (v ||| 0) (by omega) (by omega) (by rw [hv, hvf, if_neg (fun q => (po_hit hI.1 hI.2.2.1 (by omega) hk).mpr q c29)]) _ _ _ hw (lv_sub hl [0, 1, 2, 3] rfl)
            · refine lv_iconst (v := nI 1) S.1 S.2.1 dX0_having_32 (by decide) ?_
              refine lv_iload_n S.1 S.2.1 dX0_having_33 rfl (lv_at hl 0 rfl) ?_
              refine n_ishl S (by omega) dX0_having_34 ?_
              refine lv_goto (tgt := 39) S.1 S.2.1 dX0_having_35 (by decide) ?_
              refine n_ior S dX0_having_39 ?_
              refine lv_istore_n (lv' := [(2, .int (nI (v ||| (1 <<< i)))), (3, .int (nI i)), (0, .ref (h 0)), (1, .int (nI k))]) S.1 S.2.1 dX0_having_40 rfl hl (by decide) rfl (fun ls hl => ?_)
              refine n_iinc (k := 1) (lv' := [(3, .int (nI (i + 1))), (2, .int (nI (v ||| (1 <<< i)))), (0, .ref (h 0)), (1, .int (nI k))]) S dX0_having_41 hl rfl (by decide) rfl (fun ls hl => ?_)
              refine lv_goto (tgt := 4) S.1 S.2.1 dX0_having_44 (by decide) ?_
              exact ih (i + 1) (v ||| (1 <<< i)) (by omega) (by omega) (by rw [hv, hvf, if_pos ((po_hit hI.1 hI.2.2.1 (by omega) hk).mp c29)]) _ _ _ hw (lv_sub hl [0, 1, 2, 3] rfl)
    refine lv_iconst (v := nI 0) S.1 S.2.1 dX0_having_0 (by decide) ?_
    refine lv_istore_n (lv' := [(2, .int (nI 0)), (0, .ref (h 0)), (1, .int (nI k))]) S.1 S.2.1 dX0_having_1 rfl hl (by decide) rfl (fun ls hl => ?_)
    refine lv_iconst (v := nI 0) S.1 S.2.1 dX0_having_2 (by decide) ?_
    refine lv_istore_n (lv' := [(3, .int (nI 0)), (2, .int (nI 0)), (0, .ref (h 0)), (1, .int (nI k))]) S.1 S.2.1 dX0_having_3 rfl hl (by decide) rfl (fun ls hl => ?_)
    exact lp 7 0 0 (by omega) (by omega) rfl _ _ _ hw (lv_sub hl [0, 1, 2, 3] rfl)
  · refine lv_iconst (v := nI 0) S.1 S.2.1 dX0_having_0 (by decide) ?_
    refine lv_istore_n (lv' := [(2, .int (nI 0)), (0, .ref (h 0)), (1, .int b)]) S.1 S.2.1 dX0_having_1 rfl hl (by decide) rfl (fun ls hl => ?_)
    refine lv_iconst (v := nI 0) S.1 S.2.1 dX0_having_2 (by decide) ?_
    refine lv_istore_n (lv' := [(3, .int (nI 0)), (2, .int (nI 0)), (0, .ref (h 0)), (1, .int b)]) S.1 S.2.1 dX0_having_3 rfl hl (by decide) rfl (fun ls hl => ?_)
    refine lv_iload_n S.1 S.2.1 dX0_having_4 rfl (lv_at hl 0 rfl) ?_
    refine lv_bipush (v := nI 6) S.1 S.2.1 dX0_having_5 (by decide) ?_
    refine n_icmp_ge (tgt := 47) S (by omega) (by omega) dX0_having_7 (by decide) (fun c7 => ?_) (fun c7 => ?_)
    · exact absurd c7 (by omega)
    · refine lv_iload_n S.1 S.2.1 dX0_having_10 rfl (lv_at hl 3 rfl) ?_
      refine g_calls (As := [.int b]) (rest := []) S hw (mX_isWord l D h d u b) (cw_X0_X0_isWord S.2.2.2.2 ⟨by decide, by decide⟩) rfl hl.1 rfl (Nat.le_of_ble_eq_true rfl) dX0_having_11 ⟨Nat.zero_le _, Nat.zero_le _⟩ (fun r2 u2 H locs hp2 hw => ?_)
      obtain ⟨rfl, rfl⟩ := hp2
      refine n_if_eq (tgt := 47) S (by exact bN_lt _) dX0_having_14 (by decide) (fun c14 => ?_) (fun c14 => ?_)
      · refine lv_iload_n S.1 S.2.1 dX0_having_47 rfl (lv_at hl 1 rfl) ?_
        exact hret _ _ dX0_having_48 rfl (⟨by unfold hvF; rw [if_neg hb], rfl⟩) hw
      · exact absurd (bN_1 c14) hb
set_option maxHeartbeats 4000000 in
theorem mX_frequency (l : Launch) (D : va_G) (h : Nat → Nat) (d : Nat → ClassId) (u : gU) (b : Int32) (hI : xI u) : gMi l yX0_frequency cX0_frequency 4 .int (rk 1) D (xL h d) (xT d) [.ref (h 0), .int b] u (fun r u' => r = frF (u 0) (u 1) b ∧ u = u') := by
  refine gMi_of (by decide) (Nat.le_of_ble_eq_true rfl) ?_
  intro p e s m args below meth c A Q ls S hw hl hret
  have S : CallFix p m c cX0_frequency 4 s args lw_all RX0 := S
  have hl : lv_has ls 4 [(0, .ref (h 0)), (1, .int b)] := hl
  by_cases hb : ix 12 b < 12
  · obtain ⟨k, hk, rfl, hk'⟩ := ix_lt hb
    have hkk : ix 12 (nI k) < 12 := hb
    have lp : ∀ (n : Nat) (i v : Nat), (i ≤ 6) → (7 ≤ i + n) → (v = frf (u 0) (u 1) k i) → ∀ (H : Heap) (locs : List Loc) (ls : Array Slot), xW D h d A s H locs u → lv_has ls 4 [(3, .int (nI i)), (2, .int (nI v)), (0, .ref (h 0)), (1, .int (nI k))] → W p l e (rk 1) s m args below meth c H locs 0 0 Q (F0 m 4 ls []) := by
      intro n
      induction n with
      | zero =>
        intro i v hi hn hv
        exfalso; omega
      | succ n ih =>
        intro i v hi hn hv H locs ls hw hl
        refine lv_iload_n S.1 S.2.1 dX0_frequency_4 rfl (lv_at hl 0 rfl) ?_
        refine lv_bipush (v := nI 6) S.1 S.2.1 dX0_frequency_5 (by decide) ?_
        refine n_icmp_ge (tgt := 40) S (by omega) (by omega) dX0_frequency_7 (by decide) (fun c7 => ?_) (fun c7 => ?_)
        · refine lv_iload_n S.1 S.2.1 dX0_frequency_40 rfl (lv_at hl 1 rfl) ?_
          exact hret _ _ dX0_frequency_41 rfl (⟨by unfold frF; rw [if_pos hkk, ix_in hk' hk, hv, show i = 6 by omega], rfl⟩) hw
        · refine lv_iload_n S.1 S.2.1 dX0_frequency_10 rfl (lv_at hl 3 rfl) ?_
          refine g_calls (As := [.int (nI k)]) (rest := []) S hw (mX_isWord l D h d u (nI k)) (cw_X0_X0_isWord S.2.2.2.2 ⟨by decide, by decide⟩) rfl hl.1 rfl (Nat.le_of_ble_eq_true rfl) dX0_frequency_11 ⟨Nat.zero_le _, Nat.zero_le _⟩ (fun r1 u1 H locs hp1 hw => ?_)
          obtain ⟨rfl, rfl⟩ := hp1
          refine n_if_eq (tgt := 40) S (by exact bN_lt _) dX0_frequency_14 (by decide) (fun c14 => ?_) (fun c14 => ?_)
          · exact absurd hkk (bN_0 c14)
          · refine lv_iload_n S.1 S.2.1 dX0_frequency_17 rfl (lv_at hl 1 rfl) ?_
            refine lv_aload_n S.1 S.2.1 dX0_frequency_18 rfl (lv_at hl 2 rfl) ?_
            refine x_g2 S hw dX0_frequency_19 ?_
            refine lv_iload_n S.1 S.2.1 dX0_frequency_22 rfl (lv_at hl 0 rfl) ?_
            refine lv_bipush (v := nI 12) S.1 S.2.1 dX0_frequency_23 (by decide) ?_
            refine n_imulc S dX0_frequency_25 ?_
            refine lv_iload_n S.1 S.2.1 dX0_frequency_26 rfl (lv_at hl 3 rfl) ?_
            refine n_iadd S dX0_frequency_27 ?_
            refine x_l2 S hw (by omega) dX0_frequency_28 ?_
            refine g_calls (As := [.int (nI (u 2 ((12 * i) + k)))]) (rest := [.int (nI v)]) S hw (mX_ones l D h d u (u 2 ((12 * i) + k)) (poF_lt hI.1 hI.2.2.1 (show i < 6 by omega) hk)) (cw_X0_X0_ones S.2.2.2.2 ⟨by decide, by decide⟩) rfl hl.1 rfl (Nat.le_of_ble_eq_true rfl) dX0_frequency_29 ⟨Nat.zero_le _, Nat.zero_le _⟩ (fun r2 u2 H locs hp2 hw => ?_)
            obtain ⟨rfl, rfl⟩ := hp2
            refine n_iadd S dX0_frequency_32 ?_
            refine lv_istore_n (lv' := [(2, .int (nI (v + (onf (u 2 ((12 * i) + k)) 24)))), (3, .int (nI i)), (0, .ref (h 0)), (1, .int (nI k))]) S.1 S.2.1 dX0_frequency_33 rfl hl (by decide) rfl (fun ls hl => ?_)
            refine n_iinc (k := 1) (lv' := [(3, .int (nI (i + 1))), (2, .int (nI (v + (onf (u 2 ((12 * i) + k)) 24)))), (0, .ref (h 0)), (1, .int (nI k))]) S dX0_frequency_34 hl rfl (by decide) rfl (fun ls hl => ?_)
            refine lv_goto (tgt := 4) S.1 S.2.1 dX0_frequency_37 (by decide) ?_
            exact ih (i + 1) (v + (onf (u 2 ((12 * i) + k)) 24)) (by omega) (by omega) (by rw [hv, frf, onf_cnf hI.2.2.1 (by omega) hk]) _ _ _ hw (lv_sub hl [0, 1, 2, 3] rfl)
    refine lv_iconst (v := nI 0) S.1 S.2.1 dX0_frequency_0 (by decide) ?_
    refine lv_istore_n (lv' := [(2, .int (nI 0)), (0, .ref (h 0)), (1, .int (nI k))]) S.1 S.2.1 dX0_frequency_1 rfl hl (by decide) rfl (fun ls hl => ?_)
    refine lv_iconst (v := nI 0) S.1 S.2.1 dX0_frequency_2 (by decide) ?_
    refine lv_istore_n (lv' := [(3, .int (nI 0)), (2, .int (nI 0)), (0, .ref (h 0)), (1, .int (nI k))]) S.1 S.2.1 dX0_frequency_3 rfl hl (by decide) rfl (fun ls hl => ?_)
    exact lp 7 0 0 (by omega) (by omega) rfl _ _ _ hw (lv_sub hl [0, 1, 2, 3] rfl)
  · refine lv_iconst (v := nI 0) S.1 S.2.1 dX0_frequency_0 (by decide) ?_
    refine lv_istore_n (lv' := [(2, .int (nI 0)), (0, .ref (h 0)), (1, .int b)]) S.1 S.2.1 dX0_frequency_1 rfl hl (by decide) rfl (fun ls hl => ?_)
    refine lv_iconst (v := nI 0) S.1 S.2.1 dX0_frequency_2 (by decide) ?_
    refine lv_istore_n (lv' := [(3, .int (nI 0)), (2, .int (nI 0)), (0, .ref (h 0)), (1, .int b)]) S.1 S.2.1 dX0_frequency_3 rfl hl (by decide) rfl (fun ls hl => ?_)
    refine lv_iload_n S.1 S.2.1 dX0_frequency_4 rfl (lv_at hl 0 rfl) ?_
    refine lv_bipush (v := nI 6) S.1 S.2.1 dX0_frequency_5 (by decide) ?_
    refine n_icmp_ge (tgt := 40) S (by omega) (by omega) dX0_frequency_7 (by decide) (fun c7 => ?_) (fun c7 => ?_)
    · exact absurd c7 (by omega)
    · refine lv_iload_n S.1 S.2.1 dX0_frequency_10 rfl (lv_at hl 3 rfl) ?_
      refine g_calls (As := [.int b]) (rest := []) S hw (mX_isWord l D h d u b) (cw_X0_X0_isWord S.2.2.2.2 ⟨by decide, by decide⟩) rfl hl.1 rfl (Nat.le_of_ble_eq_true rfl) dX0_frequency_11 ⟨Nat.zero_le _, Nat.zero_le _⟩ (fun r3 u3 H locs hp3 hw => ?_)
      obtain ⟨rfl, rfl⟩ := hp3
      refine n_if_eq (tgt := 40) S (by exact bN_lt _) dX0_frequency_14 (by decide) (fun c14 => ?_) (fun c14 => ?_)
      · refine lv_iload_n S.1 S.2.1 dX0_frequency_40 rfl (lv_at hl 1 rfl) ?_
        exact hret _ _ dX0_frequency_41 rfl (⟨by unfold frF; rw [if_neg hb], rfl⟩) hw
      · exact absurd (bN_1 c14) hb
end
section
/-! the query of PhraseIndex, printed by gen/xq.py -/
set_option maxRecDepth 100000
theorem RI_top {t : Nat → Nat} {k : Nat} {s5 s6 s7 : Nat → Nat} {oc : Nat} (h : RI t k s5 s6 s7 oc) (h0 : 0 < oc) : s6 (oc - 1) < k ∧ 0 < s7 (oc - 1) ∧ s7 (oc - 1) ≤ 2 := by
  have h1 := h.2.2.2.1 (oc - 1) (by omega)
  have h2 := ar_le (t (s6 (oc - 1)))
  rcases h1.2 with q | q
  · exact ⟨h1.1, by omega, by omega⟩
  · exact ⟨h1.1, by omega, by omega⟩
theorem RI_oc {t : Nat → Nat} {k : Nat} {s5 s6 s7 : Nat → Nat} {oc : Nat} (h : RI t k s5 s6 s7 oc) : oc ≤ k := h.2.2.2.2.2.2.2
theorem MI_oc {t : Nat → Nat} {k : Nat} {s5 s6 s7 : Nat → Nat} {oc : Nat} (h : MI t k s5 s6 s7 oc) : oc ≤ k := h.2.2.2.2.2.2.2
theorem atF_MI {t : Nat → Nat} {k : Nat} {u : gU} (h : RI t k (u 5) (u 6) (u 7) (u 8 0)) (h0 : 0 < u 8 0) (hk : 0 < nd t k) : MI t k (atF u k 5) (atF u k 6) (atF u k 7) (atF u k 8 0) := by
  have e6 : atF u k 6 = u 6 := atF_n u k (by decide) (by decide) (by decide)
  have e5 : atF u k 5 = atS u k 5 := by
    unfold atF; split
    · rw [gup_n _ _ _ (by decide)]; unfold atW; rw [gup_n _ _ _ (by decide)]
    · unfold atW; rw [gup_n _ _ _ (by decide)]
  have e7 : atF u k 7 = va_up (u 7) (u 8 0 - 1) (u 7 (u 8 0 - 1) - 1) := by
    unfold atF; split
    · rw [gup_n _ _ _ (by decide)]; unfold atW; rw [gup_s, atS_n u k (by decide)]
    · unfold atW; rw [gup_s, atS_n u k (by decide)]
  rw [e5, e6, e7]
  have htp := RI_top h h0
  by_cases w1 : u 7 (u 8 0 - 1) = 1
  · have e8 : atF u k 8 0 = u 8 0 - 1 := by
      unfold atF; rw [if_pos (by omega), gup_s, va_up_self]
    rw [e8]
    refine RI_pop h h0 hk w1 (fun T => ?_) (fun i hi => va_up_ne _ _ hi)
    unfold atS
    by_cases c : k = u 6 (u 8 0 - 1) + 1
    · rw [if_pos c, if_neg (fun q => q.1 c)]
    · rw [if_neg c, gup_s]
      by_cases c2 : T = u 6 (u 8 0 - 1)
      · rw [if_pos ⟨c, c2⟩, c2, va_up_self]
      · rw [if_neg (fun q => c2 q.2), va_up_ne _ _ c2]
  · have e8 : atF u k 8 0 = u 8 0 := by
      unfold atF; rw [if_neg (by omega), atW_n u k (by decide) (by decide)]
    rw [e8]
    obtain ⟨h1, h2⟩ := RI_dec (s7' := va_up (u 7) (u 8 0 - 1) (u 7 (u 8 0 - 1) - 1)) h h0 w1 (fun i hi => va_up_ne _ _ hi) (va_up_self _ _ _)
    unfold atS
    rw [if_pos h2]
    exact h1
/-- the query's words and the documents stay -/
def kp (u u' : gU) : Prop := ∀ a, a < 5 → u' a = u a
theorem kp_rf (u : gU) : kp u u := fun _ _ => rfl
theorem kp_tr {u v w : gU} (h : kp u v) (h' : kp v w) : kp u w := fun a ha => (h' a ha).trans (h a ha)
theorem xI_kp {u u' : gU} (h : xI u) (k : kp u u') : xI u' := by
  unfold xI
  rw [k 0 (by decide), k 1 (by decide), k 2 (by decide), k 3 (by decide), k 4 (by decide)]
  exact h
set_option maxHeartbeats 4000000 in
theorem mX_read (l : Launch) (D : va_G) (h : Nat → Nat) (d : Nat → ClassId) (u : gU) (hq : qI (u 3) (u 4 0)) : gMv l yX0_read cX0_read 3 (rk 1) D (xL h d) (xT d) [.ref (h 0)] u (fun u' => (∀ a, a < 5 ∨ 9 ≤ a → u' a = u a) ∧ RI (u 3) (u 4 0) (u' 5) (u' 6) (u' 7) (u' 8 0)) := by
  refine gMv_of (by decide) (Nat.le_of_ble_eq_true rfl) ?_
  intro p e s m args below meth c A Q ls S hw hl hret
  have S : CallFix p m c cX0_read 3 s args lw_all RX0 := S
  have hl : lv_has ls 3 [(0, .ref (h 0))] := hl
  refine lv_aload_n S.1 S.2.1 dX0_read_0 rfl (lv_at hl 0 rfl) ?_
  refine lv_iconst (v := nI 0) S.1 S.2.1 dX0_read_1 (by decide) ?_
  refine x_p8 S hw dX0_read_2 (fun u1 eu1 H locs hw => ?_)
  refine lv_iconst (v := nI 0) S.1 S.2.1 dX0_read_5 (by decide) ?_
  refine lv_istore_n (lv' := [(1, .int (nI 0)), (0, .ref (h 0))]) S.1 S.2.1 dX0_read_6 rfl hl (by decide) rfl (fun ls hl => ?_)
  have lp : ∀ (n : Nat) (k : Nat) (uu : gU), (k ≤ u 4 0) → (u 4 0 + 1 ≤ k + n) → (∀ a, a < 5 ∨ 9 ≤ a → uu a = u a) → (RI (u 3) k (uu 5) (uu 6) (uu 7) (uu 8 0)) → ∀ (H : Heap) (locs : List Loc) (ls : Array Slot), xW D h d A s H locs uu → lv_has ls 3 [(1, .int (nI k)), (0, .ref (h 0))] → W p l e (rk 1) s m args below meth c H locs 0 0 Q (F0 m 7 ls []) := by
    intro n
    induction n with
    | zero =>
      intro k uu hk hn hf hr
      exfalso; omega
    | succ n ih =>
      intro k uu hk hn hf hr H locs ls hw hl
      have h4 : uu 4 0 = u 4 0 := by rw [hf 4 (by decide)]
      have hq1 := hq.1
      have hoc := RI_oc hr
      refine lv_iload_n S.1 S.2.1 dX0_read_7 rfl (lv_at hl 0 rfl) ?_
      refine lv_aload_n S.1 S.2.1 dX0_read_8 rfl (lv_at hl 1 rfl) ?_
      refine x_g4 S hw dX0_read_9 ?_
      refine n_icmp_ge (tgt := 79) S (by omega) (by omega) dX0_read_12 (by decide) (fun c12 => ?_) (fun c12 => ?_)
      · exact hret _ dX0_read_79 ⟨hf, by rw [show k = u 4 0 by omega] at hr; exact hr⟩ hw
      · refine lv_aload_n S.1 S.2.1 dX0_read_15 rfl (lv_at hl 1 rfl) ?_
        refine x_g8 S hw dX0_read_16 ?_
        refine n_if_le (tgt := 27) S (by omega) dX0_read_19 (by decide) (fun c19 => ?_) (fun c19 => ?_)
        · have hnd := (hq.2.2 k (by omega)).1
          have hk0 : k = 0 := by
            refine Classical.byContradiction fun q => ?_
            have := hr.2.2.1 c19 (by omega)
            omega
          have hM : MI (u 3) k (uu 5) (uu 6) (uu 7) (uu 8 0) := by rw [c19, hk0]; exact MI_0 _ _ _ _
          have hfr : ∀ a, a < 5 ∨ 9 ≤ a → uu a = u a := hf
          have h3 : uu 3 = u 3 := hfr 3 (by decide)
          have h3k : uu 3 k < 24 := by rw [h3]; exact hq.2.1 k
          have har := ar_le (uu 3 k)
          have hmo := MI_oc hM
          refine lv_aload_n S.1 S.2.1 dX0_read_27 rfl (lv_at hl 1 rfl) ?_
          refine x_g3 S hw dX0_read_28 ?_
          refine lv_iload_n S.1 S.2.1 dX0_read_31 rfl (lv_at hl 0 rfl) ?_
          refine x_l3 S hw (by omega) dX0_read_32 ?_
          refine g_calls (As := [.int (nI (uu 3 k))]) (rest := []) S hw (mX_wants l D h d uu (uu 3 k) h3k) (cw_X0_X0_wants S.2.2.2.2 ⟨by decide, by decide⟩) rfl hl.1 rfl (Nat.le_of_ble_eq_true rfl) dX0_read_33 ⟨Nat.zero_le _, Nat.zero_le _⟩ (fun r2 u2 H locs hp2 hw => ?_)
          obtain ⟨rfl, rfl⟩ := hp2
          refine lv_istore_n (lv' := [(2, .int (nI (ar (uu 3 k)))), (1, .int (nI k)), (0, .ref (h 0))]) S.1 S.2.1 dX0_read_36 rfl hl (by decide) rfl (fun ls hl => ?_)
          refine lv_iload_n S.1 S.2.1 dX0_read_37 rfl (lv_at hl 0 rfl) ?_
          refine n_if_le (tgt := 73) S (by omega) dX0_read_38 (by decide) (fun c38 => ?_) (fun c38 => ?_)
          · refine n_iinc (k := 1) (lv' := [(1, .int (nI (k + 1))), (2, .int (nI (ar (uu 3 k)))), (0, .ref (h 0))]) S dX0_read_73 hl rfl (by decide) rfl (fun ls hl => ?_)
            refine lv_goto (tgt := 7) S.1 S.2.1 dX0_read_76 (by decide) ?_
            exact ih (k + 1) uu (by omega) (by omega) hfr (MI_word hM (by rw [h3] at c38; exact c38)) _ _ _ hw (lv_sub hl [0, 2] rfl)
          · refine lv_aload_n S.1 S.2.1 dX0_read_41 rfl (lv_at hl 2 rfl) ?_
            refine x_g6 S hw dX0_read_42 ?_
            refine lv_aload_n S.1 S.2.1 dX0_read_45 rfl (lv_at hl 2 rfl) ?_
            refine x_g8 S hw dX0_read_46 ?_
            refine lv_iload_n S.1 S.2.1 dX0_read_49 rfl (lv_at hl 1 rfl) ?_
            refine n_i2b S (by omega) dX0_read_50 ?_
            refine x_s6 S hw (by omega) (by omega) dX0_read_51 (fun u3 eu3 H locs hw => ?_)
            have i8 : u3 8 0 = uu 8 0 := by rw [eu3, gup_n _ _ _ (by decide)]
            refine lv_aload_n S.1 S.2.1 dX0_read_52 rfl (lv_at hl 2 rfl) ?_
            refine x_g7 S hw dX0_read_53 ?_
            refine lv_aload_n S.1 S.2.1 dX0_read_56 rfl (lv_at hl 2 rfl) ?_
            refine x_g8 S hw dX0_read_57 ?_
            refine lv_iload_n S.1 S.2.1 dX0_read_60 rfl (lv_at hl 0 rfl) ?_
            refine n_i2b S (by omega) dX0_read_61 ?_
            refine x_s7 S hw (by omega) (by omega) dX0_read_62 (fun u4 eu4 H locs hw => ?_)
            refine lv_aload_n S.1 S.2.1 dX0_read_63 rfl (lv_at hl 2 rfl) ?_
            refine lv_dup S.1 S.2.1 dX0_read_64 rfl ?_
            refine x_g8 S hw dX0_read_65 ?_
            refine lv_iconst (v := nI 1) S.1 S.2.1 dX0_read_68 (by decide) ?_
            refine n_iadd S dX0_read_69 ?_
            refine x_p8 S hw dX0_read_70 (fun u5 eu5 H locs hw => ?_)
            refine n_iinc (k := 1) (lv' := [(1, .int (nI (k + 1))), (2, .int (nI (ar (uu 3 k)))), (0, .ref (h 0))]) S dX0_read_73 hl rfl (by decide) rfl (fun ls hl => ?_)
            refine lv_goto (tgt := 7) S.1 S.2.1 dX0_read_76 (by decide) ?_
            exact ih (k + 1) u5 (by omega) (by omega) (fun a ha => by rw [eu5, gup_n _ _ _ (by omega), eu4, gup_n _ _ _ (by omega), eu3, gup_n _ _ _ (by omega)]; exact hfr a ha) (by rw [show u5 5 = uu 5 by rw [eu5, gup_n _ _ _ (by decide), eu4, gup_n _ _ _ (by decide), eu3, gup_n _ _ _ (by decide)], show u5 6 = va_up (uu 6) (uu 8 0) k by rw [eu5, gup_n _ _ _ (by decide), eu4, gup_n _ _ _ (by decide), eu3, gup_s], show u5 7 = va_up (uu 7) (uu 8 0) (ar (u 3 k)) by rw [eu5, gup_n _ _ _ (by decide), eu4, gup_s, i8, h3, eu3, gup_n _ _ _ (by decide)], show u5 8 0 = uu 8 0 + 1 by rw [eu5, gup_s, va_up_self, eu4, gup_n _ _ _ (by decide), eu3, gup_n _ _ _ (by decide)]]; exact MI_push hM hnd (by rw [h3] at c38; exact c38)) _ _ _ hw (lv_sub hl [0, 2] rfl)
        · have hnd := (hq.2.2 k (by omega)).1
          have htp := RI_top hr c19
          refine lv_aload_n S.1 S.2.1 dX0_read_22 rfl (lv_at hl 1 rfl) ?_
          refine lv_iload_n S.1 S.2.1 dX0_read_23 rfl (lv_at hl 0 rfl) ?_
          refine g_callv (As := [.int (nI k)]) (rest := []) S hw (b := h 0) rfl rfl (mX_attach l D h d uu k (by omega) c19 (by omega) (by omega) htp.2.1 htp.2.2) (cw_X0_X0_attach S.2.2.2.2 ⟨by decide, by decide⟩) rfl hl.1 rfl (Nat.le_of_ble_eq_true rfl) dX0_read_24 ⟨Nat.zero_le _, Nat.zero_le _⟩ (fun u6 H locs hp6 hw => ?_)
          have hM : MI (u 3) k (u6 5) (u6 6) (u6 7) (u6 8 0) := by rw [hp6]; exact atF_MI hr c19 hnd
          have hfr : ∀ a, a < 5 ∨ 9 ≤ a → u6 a = u a := fun a ha => by rw [hp6, atF_n _ _ (by omega) (by omega) (by omega)]; exact hf a ha
          have h3 : u6 3 = u 3 := hfr 3 (by decide)
          have h3k : u6 3 k < 24 := by rw [h3]; exact hq.2.1 k
          have har := ar_le (u6 3 k)
          have hmo := MI_oc hM
          refine lv_aload_n S.1 S.2.1 dX0_read_27 rfl (lv_at hl 1 rfl) ?_
          refine x_g3 S hw dX0_read_28 ?_
          refine lv_iload_n S.1 S.2.1 dX0_read_31 rfl (lv_at hl 0 rfl) ?_
          refine x_l3 S hw (by omega) dX0_read_32 ?_
          refine g_calls (As := [.int (nI (u6 3 k))]) (rest := []) S hw (mX_wants l D h d u6 (u6 3 k) h3k) (cw_X0_X0_wants S.2.2.2.2 ⟨by decide, by decide⟩) rfl hl.1 rfl (Nat.le_of_ble_eq_true rfl) dX0_read_33 ⟨Nat.zero_le _, Nat.zero_le _⟩ (fun r7 u7 H locs hp7 hw => ?_)
          obtain ⟨rfl, rfl⟩ := hp7
          refine lv_istore_n (lv' := [(2, .int (nI (ar (u6 3 k)))), (1, .int (nI k)), (0, .ref (h 0))]) S.1 S.2.1 dX0_read_36 rfl hl (by decide) rfl (fun ls hl => ?_)
          refine lv_iload_n S.1 S.2.1 dX0_read_37 rfl (lv_at hl 0 rfl) ?_
          refine n_if_le (tgt := 73) S (by omega) dX0_read_38 (by decide) (fun c38 => ?_) (fun c38 => ?_)
          · refine n_iinc (k := 1) (lv' := [(1, .int (nI (k + 1))), (2, .int (nI (ar (u6 3 k)))), (0, .ref (h 0))]) S dX0_read_73 hl rfl (by decide) rfl (fun ls hl => ?_)
            refine lv_goto (tgt := 7) S.1 S.2.1 dX0_read_76 (by decide) ?_
            exact ih (k + 1) u6 (by omega) (by omega) hfr (MI_word hM (by rw [h3] at c38; exact c38)) _ _ _ hw (lv_sub hl [0, 2] rfl)
          · refine lv_aload_n S.1 S.2.1 dX0_read_41 rfl (lv_at hl 2 rfl) ?_
            refine x_g6 S hw dX0_read_42 ?_
            refine lv_aload_n S.1 S.2.1 dX0_read_45 rfl (lv_at hl 2 rfl) ?_
            refine x_g8 S hw dX0_read_46 ?_
            refine lv_iload_n S.1 S.2.1 dX0_read_49 rfl (lv_at hl 1 rfl) ?_
            refine n_i2b S (by omega) dX0_read_50 ?_
            refine x_s6 S hw (by omega) (by omega) dX0_read_51 (fun u8 eu8 H locs hw => ?_)
            have i8 : u8 8 0 = u6 8 0 := by rw [eu8, gup_n _ _ _ (by decide)]
            refine lv_aload_n S.1 S.2.1 dX0_read_52 rfl (lv_at hl 2 rfl) ?_
            refine x_g7 S hw dX0_read_53 ?_
            refine lv_aload_n S.1 S.2.1 dX0_read_56 rfl (lv_at hl 2 rfl) ?_
            refine x_g8 S hw dX0_read_57 ?_
            refine lv_iload_n S.1 S.2.1 dX0_read_60 rfl (lv_at hl 0 rfl) ?_
            refine n_i2b S (by omega) dX0_read_61 ?_
            refine x_s7 S hw (by omega) (by omega) dX0_read_62 (fun u9 eu9 H locs hw => ?_)
            refine lv_aload_n S.1 S.2.1 dX0_read_63 rfl (lv_at hl 2 rfl) ?_
            refine lv_dup S.1 S.2.1 dX0_read_64 rfl ?_
            refine x_g8 S hw dX0_read_65 ?_
            refine lv_iconst (v := nI 1) S.1 S.2.1 dX0_read_68 (by decide) ?_
            refine n_iadd S dX0_read_69 ?_
            refine x_p8 S hw dX0_read_70 (fun u10 eu10 H locs hw => ?_)
            refine n_iinc (k := 1) (lv' := [(1, .int (nI (k + 1))), (2, .int (nI (ar (u6 3 k)))), (0, .ref (h 0))]) S dX0_read_73 hl rfl (by decide) rfl (fun ls hl => ?_)
            refine lv_goto (tgt := 7) S.1 S.2.1 dX0_read_76 (by decide) ?_
            exact ih (k + 1) u10 (by omega) (by omega) (fun a ha => by rw [eu10, gup_n _ _ _ (by omega), eu9, gup_n _ _ _ (by omega), eu8, gup_n _ _ _ (by omega)]; exact hfr a ha) (by rw [show u10 5 = u6 5 by rw [eu10, gup_n _ _ _ (by decide), eu9, gup_n _ _ _ (by decide), eu8, gup_n _ _ _ (by decide)], show u10 6 = va_up (u6 6) (u6 8 0) k by rw [eu10, gup_n _ _ _ (by decide), eu9, gup_n _ _ _ (by decide), eu8, gup_s], show u10 7 = va_up (u6 7) (u6 8 0) (ar (u 3 k)) by rw [eu10, gup_n _ _ _ (by decide), eu9, gup_s, i8, h3, eu8, gup_n _ _ _ (by decide)], show u10 8 0 = u6 8 0 + 1 by rw [eu10, gup_s, va_up_self, eu9, gup_n _ _ _ (by decide), eu8, gup_n _ _ _ (by decide)]]; exact MI_push hM hnd (by rw [h3] at c38; exact c38)) _ _ _ hw (lv_sub hl [0, 2] rfl)
  exact lp (u 4 0 + 1) 0 u1 (by omega) (by omega) (fun a ha => by rw [eu1, gup_n _ _ _ (by omega)]) (by rw [show u1 8 0 = 0 by rw [eu1, gup_s, va_up_self]]; exact RI_0 _ _ _ _) _ _ _ hw (lv_sub hl [0, 1] rfl)
set_option maxHeartbeats 4000000 in
theorem mX_complete (l : Launch) (D : va_G) (h : Nat → Nat) (d : Nat → ClassId) (u : gU) (hq : qI (u 3) (u 4 0)) : gMi l yX0_complete cX0_complete 1 .boolean (rk 2) D (xL h d) (xT d) [.ref (h 0)] u (fun r u' => r = nI (bN (nd (u 3) (u 4 0) = 0)) ∧ (∀ a, a < 5 ∨ 9 ≤ a → u' a = u a) ∧ (nd (u 3) (u 4 0) = 0 → ∀ T, T < u 4 0 → ar (u 3 T) = 2 → isSec (u 3) T (u' 5 T) ∧ u' 5 T < u 4 0)) := by
  refine gMi_of (by decide) (Nat.le_of_ble_eq_true rfl) ?_
  intro p e s m args below meth c A Q ls S hw hl hret
  have S : CallFix p m c cX0_complete 1 s args lw_all RX0 := S
  have hl : lv_has ls 1 [(0, .ref (h 0))] := hl
  refine lv_aload_n S.1 S.2.1 dX0_complete_0 rfl (lv_at hl 0 rfl) ?_
  refine g_callv (As := []) (rest := []) S hw (b := h 0) rfl rfl (mX_read l D h d u hq) (cw_X0_X0_read S.2.2.2.2 ⟨by decide, by decide⟩) rfl hl.1 rfl (Nat.le_of_ble_eq_true rfl) dX0_complete_1 ⟨Nat.zero_le _, Nat.zero_le _⟩ (fun u1 H locs hp1 hw => ?_)
  obtain ⟨hf, hr⟩ := hp1
  have h4 : u1 4 0 = u 4 0 := by rw [hf 4 (by decide)]
  have hq1 := hq.1
  have hoc := RI_oc hr
  refine lv_aload_n S.1 S.2.1 dX0_complete_4 rfl (lv_at hl 0 rfl) ?_
  refine x_g4 S hw dX0_complete_5 ?_
  refine n_if_le (tgt := 22) S (by omega) dX0_complete_8 (by decide) (fun c8 => ?_) (fun c8 => ?_)
  · refine lv_iconst (v := nI 0) S.1 S.2.1 dX0_complete_22 (by decide) ?_
    exact hret _ _ dX0_complete_23 (nI_zn _ (by decide)) ⟨congrArg nI (bN_f (by rw [← h4, c8]; show ¬ 1 = 0; decide)).symm, hf, fun q => absurd q (by rw [← h4, c8]; show ¬ 1 = 0; decide)⟩ hw
  · refine lv_aload_n S.1 S.2.1 dX0_complete_11 rfl (lv_at hl 0 rfl) ?_
    refine x_g8 S hw dX0_complete_12 ?_
    refine n_if_ne (tgt := 22) S (by omega) dX0_complete_15 (by decide) (fun c15 => ?_) (fun c15 => ?_)
    · refine lv_iconst (v := nI 0) S.1 S.2.1 dX0_complete_22 (by decide) ?_
      exact hret _ _ dX0_complete_23 (nI_zn _ (by decide)) ⟨congrArg nI (bN_f (fun q => c15 ((RI_end hr (by omega)).1.mpr q))).symm, hf, fun q => absurd ((RI_end hr (by omega)).1.mpr q) c15⟩ hw
    · refine lv_iconst (v := nI 1) S.1 S.2.1 dX0_complete_18 (by decide) ?_
      refine lv_goto (tgt := 23) S.1 S.2.1 dX0_complete_19 (by decide) ?_
      exact hret _ _ dX0_complete_23 (nI_zn _ (by decide)) ⟨congrArg nI (bN_t ((RI_end hr (by omega)).1.mp c15)).symm, hf, fun _ => (RI_end hr (by omega)).2.2 c15⟩ hw
/-- what ask answers and does -/
def asF (t : Nat → Nat) (n : Nat) (a : Int32) : Int32 × (Nat → Nat) × Nat := if 12 ≤ n ∨ nd t n = 0 then (-2, t, n) else if (pl t n (nd t n - 1) = 1 ∧ 20 ≤ ix 24 a ∧ ix 24 a ≤ 23) ∨ (pl t n (nd t n - 1) = 2 ∧ ix 24 a ≤ 18) then (nI (n + 1), va_up t n (ix 24 a), n + 1) else (-1, t, n)
theorem kd_is1 {t : Nat} (h : t ≠ 23) (h1 : ¬ t ≤ 18) (h2 : t ≠ 19) (h3 : t < 24) : kd t = 1 := by unfold kd; rw [if_pos (by omega)]
theorem kd_is2 {t : Nat} (h : t = 23 ∨ t ≤ 18) : kd t = 2 := by unfold kd; rw [if_neg (by omega)]
set_option maxHeartbeats 4000000 in
theorem mX_ask (l : Launch) (D : va_G) (h : Nat → Nat) (d : Nat → ClassId) (u : gU) (a : Int32) (hI : xI u) : gMi l yX0_ask cX0_ask 5 .int (rk 2) D (xL h d) (xT d) [.ref (h 0), .int a] u (fun r u' => (r, u' 3, u' 4 0) = asF (u 3) (u 4 0) a ∧ u' 0 = u 0 ∧ u' 1 = u 1 ∧ xI u') := by
  refine gMi_of (by decide) (Nat.le_of_ble_eq_true rfl) ?_
  intro p e s m args below meth c A Q ls S hw hl hret
  have S : CallFix p m c cX0_ask 5 s args lw_all RX0 := S
  have hl : lv_has ls 5 [(0, .ref (h 0)), (1, .int a)] := hl
  have hq := hI.2.2.2
  refine lv_aload_n S.1 S.2.1 dX0_ask_0 rfl (lv_at hl 0 rfl) ?_
  refine g_callv (As := []) (rest := []) S hw (b := h 0) rfl rfl (mX_read l D h d u hq) (cw_X0_X0_read S.2.2.2.2 ⟨by decide, by decide⟩) rfl hl.1 rfl (Nat.le_of_ble_eq_true rfl) dX0_ask_1 ⟨Nat.zero_le _, Nat.zero_le _⟩ (fun u1 H locs hp1 hw => ?_)
  obtain ⟨hf, hr⟩ := hp1
  have h4 : u1 4 0 = u 4 0 := by rw [hf 4 (by decide)]
  have hq1 := hq.1
  have hoc := RI_oc hr
  refine lv_aload_n S.1 S.2.1 dX0_ask_4 rfl (lv_at hl 0 rfl) ?_
  refine x_g4 S hw dX0_ask_5 ?_
  refine lv_bipush (v := nI 12) S.1 S.2.1 dX0_ask_8 (by decide) ?_
  refine n_icmp_ge (tgt := 27) S (by omega) (by omega) dX0_ask_10 (by decide) (fun c10 => ?_) (fun c10 => ?_)
  · refine lv_bipush (v := (-2)) S.1 S.2.1 dX0_ask_27 (by decide) ?_
    exact hret _ _ dX0_ask_29 rfl ⟨by unfold asF; rw [if_pos (Or.inl (by omega)), hf 3 (by decide), h4], by rw [hf 0 (by decide)], by rw [hf 1 (by decide)], xI_kp hI (fun a ha => hf a (Or.inl ha))⟩ hw
  · refine lv_aload_n S.1 S.2.1 dX0_ask_13 rfl (lv_at hl 0 rfl) ?_
    refine x_g4 S hw dX0_ask_14 ?_
    refine n_if_le (tgt := 30) S (by omega) dX0_ask_17 (by decide) (fun c17 => ?_) (fun c17 => ?_)
    · have hn0 : u 4 0 = 0 := by omega
      have hnd : nd (u 3) (u 4 0) = 1 := by rw [hn0]; rfl
      refine lv_aload_n S.1 S.2.1 dX0_ask_30 rfl (lv_at hl 0 rfl) ?_
      refine x_g8 S hw dX0_ask_31 ?_
      refine n_if_le (tgt := 56) S (by omega) dX0_ask_34 (by decide) (fun c34 => ?_) (fun c34 => ?_)
      · have hnd0 : 0 < nd (u 3) (u 4 0) := by omega
        have hk : kd 20 = pl (u 3) (u 4 0) (nd (u 3) (u 4 0) - 1) := by rw [hn0]; rfl
        refine lv_bipush (v := nI 20) S.1 S.2.1 dX0_ask_56 (by decide) ?_
        refine lv_istore_n (lv' := [(2, .int (nI 20)), (0, .ref (h 0)), (1, .int a)]) S.1 S.2.1 dX0_ask_58 rfl hl (by decide) rfl (fun ls hl => ?_)
        refine lv_iload_n S.1 S.2.1 dX0_ask_59 rfl (lv_at hl 0 rfl) ?_
        refine lv_bipush (v := nI 23) S.1 S.2.1 dX0_ask_60 (by decide) ?_
        refine n_icmp_eq (tgt := 72) S (by omega) (by omega) dX0_ask_62 (by decide) (fun c62 => ?_) (fun c62 => ?_)
        · refine lv_iconst (v := nI 1) S.1 S.2.1 dX0_ask_72 (by decide) ?_
          refine lv_goto (tgt := 77) S.1 S.2.1 dX0_ask_73 (by decide) ?_
          refine lv_istore_n (lv' := [(3, .int (nI 1)), (2, .int (nI 20)), (0, .ref (h 0)), (1, .int a)]) S.1 S.2.1 dX0_ask_77 rfl hl (by decide) rfl (fun ls hl => ?_)
          have hpl : pl (u 3) (u 4 0) (nd (u 3) (u 4 0) - 1) = 2 := by rw [← hk]; exact kd_is2 (Or.inl c62)
          refine lv_iload_n S.1 S.2.1 dX0_ask_78 rfl (lv_at hl 0 rfl) ?_
          refine n_if_eq (tgt := 89) S (by decide) dX0_ask_79 (by decide) (fun c => absurd c (by decide)) (fun _ => ?_)
          refine lv_iload_n S.1 S.2.1 dX0_ask_82 rfl (lv_at hl 3 rfl) ?_
          refine g_calls (As := [.int a]) (rest := []) S hw (mX_isSpan l D h d u1 a) (cw_X0_X0_isSpan S.2.2.2.2 ⟨by decide, by decide⟩) rfl hl.1 rfl (Nat.le_of_ble_eq_true rfl) dX0_ask_83 ⟨Nat.zero_le _, Nat.zero_le _⟩ (fun r2 u2 H locs hp2 hw => ?_)
          obtain ⟨rfl, rfl⟩ := hp2
          refine lv_goto (tgt := 93) S.1 S.2.1 dX0_ask_86 (by decide) ?_
          refine lv_istore (lv' := [(4, .int (nI (bN (ix 24 a ≤ 18)))), (3, .int (nI 1)), (2, .int (nI 20)), (0, .ref (h 0)), (1, .int a)]) S.1 S.2.1 dX0_ask_93 hl (by decide) rfl (fun ls hl => ?_)
          refine lv_iload S.1 S.2.1 dX0_ask_95 (lv_at hl 0 rfl) ?_
          refine n_if_ne (tgt := 102) S (by exact bN_lt _) dX0_ask_97 (by decide) (fun c97 => ?_) (fun c97 => ?_)
          · have hgood := bN_1 c97
            obtain ⟨k, hk24, rfl, hk'⟩ := ix_lt (N := 24) (x := a) (by omega)
            rw [ix_in hk' hk24] at hgood
            refine lv_aload_n S.1 S.2.1 dX0_ask_102 rfl (lv_at hl 3 rfl) ?_
            refine x_g3 S hw dX0_ask_103 ?_
            refine lv_aload_n S.1 S.2.1 dX0_ask_106 rfl (lv_at hl 3 rfl) ?_
            refine x_g4 S hw dX0_ask_107 ?_
            refine lv_iload_n S.1 S.2.1 dX0_ask_110 rfl (lv_at hl 4 rfl) ?_
            refine n_i2b S (by omega) dX0_ask_111 ?_
            refine x_s3 S hw (by omega) (by omega) dX0_ask_112 (fun u3 eu3 H locs hw => ?_)
            refine lv_aload_n S.1 S.2.1 dX0_ask_113 rfl (lv_at hl 3 rfl) ?_
            refine lv_dup S.1 S.2.1 dX0_ask_114 rfl ?_
            refine x_g4 S hw dX0_ask_115 ?_
            refine lv_iconst (v := nI 1) S.1 S.2.1 dX0_ask_118 (by decide) ?_
            refine n_iadd S dX0_ask_119 ?_
            refine x_p4 S hw dX0_ask_120 (fun u4 eu4 H locs hw => ?_)
            refine lv_aload_n S.1 S.2.1 dX0_ask_123 rfl (lv_at hl 3 rfl) ?_
            refine x_g4 S hw dX0_ask_124 ?_
            have f3 : u4 3 = va_up (u 3) (u 4 0) k := by rw [eu4, gup_n _ _ _ (by decide), eu3, gup_s, hf 3 (by decide), h4]
            have f4 : u4 4 0 = u 4 0 + 1 := by rw [eu4, gup_s, va_up_self, eu3, gup_n _ _ _ (by decide), h4]
            have f0 : u4 0 = u 0 := by rw [eu4, gup_n _ _ _ (by decide), eu3, gup_n _ _ _ (by decide), hf 0 (by decide)]
            have f1 : u4 1 = u 1 := by rw [eu4, gup_n _ _ _ (by decide), eu3, gup_n _ _ _ (by decide), hf 1 (by decide)]
            have f2 : u4 2 = u 2 := by rw [eu4, gup_n _ _ _ (by decide), eu3, gup_n _ _ _ (by decide), hf 2 (by decide)]
            refine hret _ _ dX0_ask_127 rfl ⟨?_, f0, f1, ?_⟩ hw
            · unfold asF; rw [ix_in hk' hk24, if_neg (by omega), if_pos (Or.inr ⟨hpl, hgood⟩), f3, f4]
            · refine ⟨by rw [f0]; exact hI.1, by rw [f1]; exact hI.2.1, by rw [f0, f1, f2]; exact hI.2.2.1, ?_⟩
              rw [f3, f4]
              exact qI_add hq (by omega) hk24 hnd0 (Or.inr ⟨hpl, hgood⟩)
          · refine lv_iconst (v := (-1)) S.1 S.2.1 dX0_ask_100 (by decide) ?_
            exact hret _ _ dX0_ask_101 rfl ⟨by unfold asF; rw [if_neg (by omega), if_neg (fun q => by rcases q with q | q; (omega); (exact bN_0 c97 q.2)), hf 3 (by decide), h4], by rw [hf 0 (by decide)], by rw [hf 1 (by decide)], xI_kp hI (fun a ha => hf a (Or.inl ha))⟩ hw
        · refine lv_iload_n S.1 S.2.1 dX0_ask_65 rfl (lv_at hl 0 rfl) ?_
          refine g_calls (As := [.int (nI 20)]) (rest := []) S hw (mX_isSpan l D h d u1 (nI 20)) (cw_X0_X0_isSpan S.2.2.2.2 ⟨by decide, by decide⟩) rfl hl.1 rfl (Nat.le_of_ble_eq_true rfl) dX0_ask_66 ⟨Nat.zero_le _, Nat.zero_le _⟩ (fun r5 u5 H locs hp5 hw => ?_)
          obtain ⟨rfl, rfl⟩ := hp5
          refine n_if_eq (tgt := 76) S (by exact bN_lt _) dX0_ask_69 (by decide) (fun c69 => ?_) (fun c69 => ?_)
          · refine lv_iconst (v := nI 0) S.1 S.2.1 dX0_ask_76 (by decide) ?_
            refine lv_istore_n (lv' := [(3, .int (nI 0)), (2, .int (nI 20)), (0, .ref (h 0)), (1, .int a)]) S.1 S.2.1 dX0_ask_77 rfl hl (by decide) rfl (fun ls hl => ?_)
            have hpl : pl (u 3) (u 4 0) (nd (u 3) (u 4 0) - 1) = 1 := by rw [← hk]; exact rfl
            refine lv_iload_n S.1 S.2.1 dX0_ask_78 rfl (lv_at hl 0 rfl) ?_
            refine n_if_eq (tgt := 89) S (by decide) dX0_ask_79 (by decide) (fun _ => ?_) (fun c => absurd c (by decide))
            refine lv_iload_n S.1 S.2.1 dX0_ask_89 rfl (lv_at hl 3 rfl) ?_
            refine g_calls (As := [.int a]) (rest := []) S hw (mX_isCondition l D h d u1 a) (cw_X0_X0_isCondition S.2.2.2.2 ⟨by decide, by decide⟩) rfl hl.1 rfl (Nat.le_of_ble_eq_true rfl) dX0_ask_90 ⟨Nat.zero_le _, Nat.zero_le _⟩ (fun r6 u6 H locs hp6 hw => ?_)
            obtain ⟨rfl, rfl⟩ := hp6
            refine lv_istore (lv' := [(4, .int (nI (bN (20 ≤ ix 24 a ∧ ix 24 a ≤ 23)))), (3, .int (nI 0)), (2, .int (nI 20)), (0, .ref (h 0)), (1, .int a)]) S.1 S.2.1 dX0_ask_93 hl (by decide) rfl (fun ls hl => ?_)
            refine lv_iload S.1 S.2.1 dX0_ask_95 (lv_at hl 0 rfl) ?_
            refine n_if_ne (tgt := 102) S (by exact bN_lt _) dX0_ask_97 (by decide) (fun c97 => ?_) (fun c97 => ?_)
            · have hgood := bN_1 c97
              obtain ⟨k, hk24, rfl, hk'⟩ := ix_lt (N := 24) (x := a) (by omega)
              rw [ix_in hk' hk24] at hgood
              refine lv_aload_n S.1 S.2.1 dX0_ask_102 rfl (lv_at hl 3 rfl) ?_
              refine x_g3 S hw dX0_ask_103 ?_
              refine lv_aload_n S.1 S.2.1 dX0_ask_106 rfl (lv_at hl 3 rfl) ?_
              refine x_g4 S hw dX0_ask_107 ?_
              refine lv_iload_n S.1 S.2.1 dX0_ask_110 rfl (lv_at hl 4 rfl) ?_
              refine n_i2b S (by omega) dX0_ask_111 ?_
              refine x_s3 S hw (by omega) (by omega) dX0_ask_112 (fun u7 eu7 H locs hw => ?_)
              refine lv_aload_n S.1 S.2.1 dX0_ask_113 rfl (lv_at hl 3 rfl) ?_
              refine lv_dup S.1 S.2.1 dX0_ask_114 rfl ?_
              refine x_g4 S hw dX0_ask_115 ?_
              refine lv_iconst (v := nI 1) S.1 S.2.1 dX0_ask_118 (by decide) ?_
              refine n_iadd S dX0_ask_119 ?_
              refine x_p4 S hw dX0_ask_120 (fun u8 eu8 H locs hw => ?_)
              refine lv_aload_n S.1 S.2.1 dX0_ask_123 rfl (lv_at hl 3 rfl) ?_
              refine x_g4 S hw dX0_ask_124 ?_
              have f3 : u8 3 = va_up (u 3) (u 4 0) k := by rw [eu8, gup_n _ _ _ (by decide), eu7, gup_s, hf 3 (by decide), h4]
              have f4 : u8 4 0 = u 4 0 + 1 := by rw [eu8, gup_s, va_up_self, eu7, gup_n _ _ _ (by decide), h4]
              have f0 : u8 0 = u 0 := by rw [eu8, gup_n _ _ _ (by decide), eu7, gup_n _ _ _ (by decide), hf 0 (by decide)]
              have f1 : u8 1 = u 1 := by rw [eu8, gup_n _ _ _ (by decide), eu7, gup_n _ _ _ (by decide), hf 1 (by decide)]
              have f2 : u8 2 = u 2 := by rw [eu8, gup_n _ _ _ (by decide), eu7, gup_n _ _ _ (by decide), hf 2 (by decide)]
              refine hret _ _ dX0_ask_127 rfl ⟨?_, f0, f1, ?_⟩ hw
              · unfold asF; rw [ix_in hk' hk24, if_neg (by omega), if_pos (Or.inl ⟨hpl, hgood⟩), f3, f4]
              · refine ⟨by rw [f0]; exact hI.1, by rw [f1]; exact hI.2.1, by rw [f0, f1, f2]; exact hI.2.2.1, ?_⟩
                rw [f3, f4]
                exact qI_add hq (by omega) hk24 hnd0 (Or.inl ⟨hpl, hgood.1⟩)
            · refine lv_iconst (v := (-1)) S.1 S.2.1 dX0_ask_100 (by decide) ?_
              exact hret _ _ dX0_ask_101 rfl ⟨by unfold asF; rw [if_neg (by omega), if_neg (fun q => by rcases q with q | q; (exact bN_0 c97 q.2); (omega)), hf 3 (by decide), h4], by rw [hf 0 (by decide)], by rw [hf 1 (by decide)], xI_kp hI (fun a ha => hf a (Or.inl ha))⟩ hw
          · refine lv_iconst (v := nI 1) S.1 S.2.1 dX0_ask_72 (by decide) ?_
            refine lv_goto (tgt := 77) S.1 S.2.1 dX0_ask_73 (by decide) ?_
            refine lv_istore_n (lv' := [(3, .int (nI 1)), (2, .int (nI 20)), (0, .ref (h 0)), (1, .int a)]) S.1 S.2.1 dX0_ask_77 rfl hl (by decide) rfl (fun ls hl => ?_)
            have hpl : pl (u 3) (u 4 0) (nd (u 3) (u 4 0) - 1) = 2 := by rw [← hk]; exact kd_is2 (Or.inr (by have z := bN_1 c69; rw [ix_nI (by decide)] at z; omega))
            refine lv_iload_n S.1 S.2.1 dX0_ask_78 rfl (lv_at hl 0 rfl) ?_
            refine n_if_eq (tgt := 89) S (by decide) dX0_ask_79 (by decide) (fun c => absurd c (by decide)) (fun _ => ?_)
            refine lv_iload_n S.1 S.2.1 dX0_ask_82 rfl (lv_at hl 3 rfl) ?_
            refine g_calls (As := [.int a]) (rest := []) S hw (mX_isSpan l D h d u1 a) (cw_X0_X0_isSpan S.2.2.2.2 ⟨by decide, by decide⟩) rfl hl.1 rfl (Nat.le_of_ble_eq_true rfl) dX0_ask_83 ⟨Nat.zero_le _, Nat.zero_le _⟩ (fun r9 u9 H locs hp9 hw => ?_)
            obtain ⟨rfl, rfl⟩ := hp9
            refine lv_goto (tgt := 93) S.1 S.2.1 dX0_ask_86 (by decide) ?_
            refine lv_istore (lv' := [(4, .int (nI (bN (ix 24 a ≤ 18)))), (3, .int (nI 1)), (2, .int (nI 20)), (0, .ref (h 0)), (1, .int a)]) S.1 S.2.1 dX0_ask_93 hl (by decide) rfl (fun ls hl => ?_)
            refine lv_iload S.1 S.2.1 dX0_ask_95 (lv_at hl 0 rfl) ?_
            refine n_if_ne (tgt := 102) S (by exact bN_lt _) dX0_ask_97 (by decide) (fun c97 => ?_) (fun c97 => ?_)
            · have hgood := bN_1 c97
              obtain ⟨k, hk24, rfl, hk'⟩ := ix_lt (N := 24) (x := a) (by omega)
              rw [ix_in hk' hk24] at hgood
              refine lv_aload_n S.1 S.2.1 dX0_ask_102 rfl (lv_at hl 3 rfl) ?_
              refine x_g3 S hw dX0_ask_103 ?_
              refine lv_aload_n S.1 S.2.1 dX0_ask_106 rfl (lv_at hl 3 rfl) ?_
              refine x_g4 S hw dX0_ask_107 ?_
              refine lv_iload_n S.1 S.2.1 dX0_ask_110 rfl (lv_at hl 4 rfl) ?_
              refine n_i2b S (by omega) dX0_ask_111 ?_
              refine x_s3 S hw (by omega) (by omega) dX0_ask_112 (fun u10 eu10 H locs hw => ?_)
              refine lv_aload_n S.1 S.2.1 dX0_ask_113 rfl (lv_at hl 3 rfl) ?_
              refine lv_dup S.1 S.2.1 dX0_ask_114 rfl ?_
              refine x_g4 S hw dX0_ask_115 ?_
              refine lv_iconst (v := nI 1) S.1 S.2.1 dX0_ask_118 (by decide) ?_
              refine n_iadd S dX0_ask_119 ?_
              refine x_p4 S hw dX0_ask_120 (fun u11 eu11 H locs hw => ?_)
              refine lv_aload_n S.1 S.2.1 dX0_ask_123 rfl (lv_at hl 3 rfl) ?_
              refine x_g4 S hw dX0_ask_124 ?_
              have f3 : u11 3 = va_up (u 3) (u 4 0) k := by rw [eu11, gup_n _ _ _ (by decide), eu10, gup_s, hf 3 (by decide), h4]
              have f4 : u11 4 0 = u 4 0 + 1 := by rw [eu11, gup_s, va_up_self, eu10, gup_n _ _ _ (by decide), h4]
              have f0 : u11 0 = u 0 := by rw [eu11, gup_n _ _ _ (by decide), eu10, gup_n _ _ _ (by decide), hf 0 (by decide)]
              have f1 : u11 1 = u 1 := by rw [eu11, gup_n _ _ _ (by decide), eu10, gup_n _ _ _ (by decide), hf 1 (by decide)]
              have f2 : u11 2 = u 2 := by rw [eu11, gup_n _ _ _ (by decide), eu10, gup_n _ _ _ (by decide), hf 2 (by decide)]
              refine hret _ _ dX0_ask_127 rfl ⟨?_, f0, f1, ?_⟩ hw
              · unfold asF; rw [ix_in hk' hk24, if_neg (by omega), if_pos (Or.inr ⟨hpl, hgood⟩), f3, f4]
              · refine ⟨by rw [f0]; exact hI.1, by rw [f1]; exact hI.2.1, by rw [f0, f1, f2]; exact hI.2.2.1, ?_⟩
                rw [f3, f4]
                exact qI_add hq (by omega) hk24 hnd0 (Or.inr ⟨hpl, hgood⟩)
            · refine lv_iconst (v := (-1)) S.1 S.2.1 dX0_ask_100 (by decide) ?_
              exact hret _ _ dX0_ask_101 rfl ⟨by unfold asF; rw [if_neg (by omega), if_neg (fun q => by rcases q with q | q; (omega); (exact bN_0 c97 q.2)), hf 3 (by decide), h4], by rw [hf 0 (by decide)], by rw [hf 1 (by decide)], xI_kp hI (fun a ha => hf a (Or.inl ha))⟩ hw
      · exfalso; omega
    · refine lv_aload_n S.1 S.2.1 dX0_ask_20 rfl (lv_at hl 0 rfl) ?_
      refine x_g8 S hw dX0_ask_21 ?_
      refine n_if_ne (tgt := 30) S (by omega) dX0_ask_24 (by decide) (fun c24 => ?_) (fun c24 => ?_)
      · have hE := RI_end hr (by omega)
        have hnd0 : 0 < nd (u 3) (u 4 0) := Nat.pos_of_ne_zero (fun q => c24 (hE.1.mpr q))
        refine lv_aload_n S.1 S.2.1 dX0_ask_30 rfl (lv_at hl 0 rfl) ?_
        refine x_g8 S hw dX0_ask_31 ?_
        refine n_if_le (tgt := 56) S (by omega) dX0_ask_34 (by decide) (fun c34 => ?_) (fun c34 => ?_)
        · exfalso; omega
        · have hT := hE.2.1 c34
          have h3 : u1 3 = u 3 := hf 3 (by decide)
          have hk : kd (u1 3 (u1 6 (u1 8 0 - 1))) = pl (u 3) (u 4 0) (nd (u 3) (u 4 0) - 1) := by rw [h3]; exact hT.2
          have ht24 : u1 3 (u1 6 (u1 8 0 - 1)) < 24 := by rw [h3]; exact hq.2.1 _
          have ht19 : u1 3 (u1 6 (u1 8 0 - 1)) ≠ 19 := by rw [h3]; have := (hq.2.2 _ hT.1).2; omega
          have hT1 := hT.1
          refine lv_aload_n S.1 S.2.1 dX0_ask_37 rfl (lv_at hl 0 rfl) ?_
          refine x_g3 S hw dX0_ask_38 ?_
          refine lv_aload_n S.1 S.2.1 dX0_ask_41 rfl (lv_at hl 0 rfl) ?_
          refine x_g6 S hw dX0_ask_42 ?_
          refine lv_aload_n S.1 S.2.1 dX0_ask_45 rfl (lv_at hl 0 rfl) ?_
          refine x_g8 S hw dX0_ask_46 ?_
          refine lv_iconst (v := nI 1) S.1 S.2.1 dX0_ask_49 (by decide) ?_
          refine n_isub S (by omega) dX0_ask_50 ?_
          refine x_l6 S hw (by omega) dX0_ask_51 ?_
          refine x_l3 S hw (by omega) dX0_ask_52 ?_
          refine lv_goto (tgt := 58) S.1 S.2.1 dX0_ask_53 (by decide) ?_
          generalize u1 3 (u1 6 ((u1 8 0) - 1)) = top at hk ht24 ht19 ⊢
          refine lv_istore_n (lv' := [(2, .int (nI top)), (0, .ref (h 0)), (1, .int a)]) S.1 S.2.1 dX0_ask_58 rfl hl (by decide) rfl (fun ls hl => ?_)
          refine lv_iload_n S.1 S.2.1 dX0_ask_59 rfl (lv_at hl 0 rfl) ?_
          refine lv_bipush (v := nI 23) S.1 S.2.1 dX0_ask_60 (by decide) ?_
          refine n_icmp_eq (tgt := 72) S (by omega) (by omega) dX0_ask_62 (by decide) (fun c62 => ?_) (fun c62 => ?_)
          · refine lv_iconst (v := nI 1) S.1 S.2.1 dX0_ask_72 (by decide) ?_
            refine lv_goto (tgt := 77) S.1 S.2.1 dX0_ask_73 (by decide) ?_
            refine lv_istore_n (lv' := [(3, .int (nI 1)), (2, .int (nI top)), (0, .ref (h 0)), (1, .int a)]) S.1 S.2.1 dX0_ask_77 rfl hl (by decide) rfl (fun ls hl => ?_)
            have hpl : pl (u 3) (u 4 0) (nd (u 3) (u 4 0) - 1) = 2 := by rw [← hk]; exact kd_is2 (Or.inl c62)
            refine lv_iload_n S.1 S.2.1 dX0_ask_78 rfl (lv_at hl 0 rfl) ?_
            refine n_if_eq (tgt := 89) S (by decide) dX0_ask_79 (by decide) (fun c => absurd c (by decide)) (fun _ => ?_)
            refine lv_iload_n S.1 S.2.1 dX0_ask_82 rfl (lv_at hl 3 rfl) ?_
            refine g_calls (As := [.int a]) (rest := []) S hw (mX_isSpan l D h d u1 a) (cw_X0_X0_isSpan S.2.2.2.2 ⟨by decide, by decide⟩) rfl hl.1 rfl (Nat.le_of_ble_eq_true rfl) dX0_ask_83 ⟨Nat.zero_le _, Nat.zero_le _⟩ (fun r12 u12 H locs hp12 hw => ?_)
            obtain ⟨rfl, rfl⟩ := hp12
            refine lv_goto (tgt := 93) S.1 S.2.1 dX0_ask_86 (by decide) ?_
            refine lv_istore (lv' := [(4, .int (nI (bN (ix 24 a ≤ 18)))), (3, .int (nI 1)), (2, .int (nI top)), (0, .ref (h 0)), (1, .int a)]) S.1 S.2.1 dX0_ask_93 hl (by decide) rfl (fun ls hl => ?_)
            refine lv_iload S.1 S.2.1 dX0_ask_95 (lv_at hl 0 rfl) ?_
            refine n_if_ne (tgt := 102) S (by exact bN_lt _) dX0_ask_97 (by decide) (fun c97 => ?_) (fun c97 => ?_)
            · have hgood := bN_1 c97
              obtain ⟨k, hk24, rfl, hk'⟩ := ix_lt (N := 24) (x := a) (by omega)
              rw [ix_in hk' hk24] at hgood
              refine lv_aload_n S.1 S.2.1 dX0_ask_102 rfl (lv_at hl 3 rfl) ?_
              refine x_g3 S hw dX0_ask_103 ?_
              refine lv_aload_n S.1 S.2.1 dX0_ask_106 rfl (lv_at hl 3 rfl) ?_
              refine x_g4 S hw dX0_ask_107 ?_
              refine lv_iload_n S.1 S.2.1 dX0_ask_110 rfl (lv_at hl 4 rfl) ?_
              refine n_i2b S (by omega) dX0_ask_111 ?_
              refine x_s3 S hw (by omega) (by omega) dX0_ask_112 (fun u13 eu13 H locs hw => ?_)
              refine lv_aload_n S.1 S.2.1 dX0_ask_113 rfl (lv_at hl 3 rfl) ?_
              refine lv_dup S.1 S.2.1 dX0_ask_114 rfl ?_
              refine x_g4 S hw dX0_ask_115 ?_
              refine lv_iconst (v := nI 1) S.1 S.2.1 dX0_ask_118 (by decide) ?_
              refine n_iadd S dX0_ask_119 ?_
              refine x_p4 S hw dX0_ask_120 (fun u14 eu14 H locs hw => ?_)
              refine lv_aload_n S.1 S.2.1 dX0_ask_123 rfl (lv_at hl 3 rfl) ?_
              refine x_g4 S hw dX0_ask_124 ?_
              have f3 : u14 3 = va_up (u 3) (u 4 0) k := by rw [eu14, gup_n _ _ _ (by decide), eu13, gup_s, hf 3 (by decide), h4]
              have f4 : u14 4 0 = u 4 0 + 1 := by rw [eu14, gup_s, va_up_self, eu13, gup_n _ _ _ (by decide), h4]
              have f0 : u14 0 = u 0 := by rw [eu14, gup_n _ _ _ (by decide), eu13, gup_n _ _ _ (by decide), hf 0 (by decide)]
              have f1 : u14 1 = u 1 := by rw [eu14, gup_n _ _ _ (by decide), eu13, gup_n _ _ _ (by decide), hf 1 (by decide)]
              have f2 : u14 2 = u 2 := by rw [eu14, gup_n _ _ _ (by decide), eu13, gup_n _ _ _ (by decide), hf 2 (by decide)]
              refine hret _ _ dX0_ask_127 rfl ⟨?_, f0, f1, ?_⟩ hw
              · unfold asF; rw [ix_in hk' hk24, if_neg (by omega), if_pos (Or.inr ⟨hpl, hgood⟩), f3, f4]
              · refine ⟨by rw [f0]; exact hI.1, by rw [f1]; exact hI.2.1, by rw [f0, f1, f2]; exact hI.2.2.1, ?_⟩
                rw [f3, f4]
                exact qI_add hq (by omega) hk24 hnd0 (Or.inr ⟨hpl, hgood⟩)
            · refine lv_iconst (v := (-1)) S.1 S.2.1 dX0_ask_100 (by decide) ?_
              exact hret _ _ dX0_ask_101 rfl ⟨by unfold asF; rw [if_neg (by omega), if_neg (fun q => by rcases q with q | q; (omega); (exact bN_0 c97 q.2)), hf 3 (by decide), h4], by rw [hf 0 (by decide)], by rw [hf 1 (by decide)], xI_kp hI (fun a ha => hf a (Or.inl ha))⟩ hw
          · refine lv_iload_n S.1 S.2.1 dX0_ask_65 rfl (lv_at hl 0 rfl) ?_
            refine g_calls (As := [.int (nI top)]) (rest := []) S hw (mX_isSpan l D h d u1 (nI top)) (cw_X0_X0_isSpan S.2.2.2.2 ⟨by decide, by decide⟩) rfl hl.1 rfl (Nat.le_of_ble_eq_true rfl) dX0_ask_66 ⟨Nat.zero_le _, Nat.zero_le _⟩ (fun r15 u15 H locs hp15 hw => ?_)
            obtain ⟨rfl, rfl⟩ := hp15
            refine n_if_eq (tgt := 76) S (by exact bN_lt _) dX0_ask_69 (by decide) (fun c69 => ?_) (fun c69 => ?_)
            · refine lv_iconst (v := nI 0) S.1 S.2.1 dX0_ask_76 (by decide) ?_
              refine lv_istore_n (lv' := [(3, .int (nI 0)), (2, .int (nI top)), (0, .ref (h 0)), (1, .int a)]) S.1 S.2.1 dX0_ask_77 rfl hl (by decide) rfl (fun ls hl => ?_)
              have hpl : pl (u 3) (u 4 0) (nd (u 3) (u 4 0) - 1) = 1 := by rw [← hk]; exact kd_is1 c62 (fun q => bN_0 c69 (by rw [ix_nI (by omega)]; omega)) ht19 ht24
              refine lv_iload_n S.1 S.2.1 dX0_ask_78 rfl (lv_at hl 0 rfl) ?_
              refine n_if_eq (tgt := 89) S (by decide) dX0_ask_79 (by decide) (fun _ => ?_) (fun c => absurd c (by decide))
              refine lv_iload_n S.1 S.2.1 dX0_ask_89 rfl (lv_at hl 3 rfl) ?_
              refine g_calls (As := [.int a]) (rest := []) S hw (mX_isCondition l D h d u1 a) (cw_X0_X0_isCondition S.2.2.2.2 ⟨by decide, by decide⟩) rfl hl.1 rfl (Nat.le_of_ble_eq_true rfl) dX0_ask_90 ⟨Nat.zero_le _, Nat.zero_le _⟩ (fun r16 u16 H locs hp16 hw => ?_)
              obtain ⟨rfl, rfl⟩ := hp16
              refine lv_istore (lv' := [(4, .int (nI (bN (20 ≤ ix 24 a ∧ ix 24 a ≤ 23)))), (3, .int (nI 0)), (2, .int (nI top)), (0, .ref (h 0)), (1, .int a)]) S.1 S.2.1 dX0_ask_93 hl (by decide) rfl (fun ls hl => ?_)
              refine lv_iload S.1 S.2.1 dX0_ask_95 (lv_at hl 0 rfl) ?_
              refine n_if_ne (tgt := 102) S (by exact bN_lt _) dX0_ask_97 (by decide) (fun c97 => ?_) (fun c97 => ?_)
              · have hgood := bN_1 c97
                obtain ⟨k, hk24, rfl, hk'⟩ := ix_lt (N := 24) (x := a) (by omega)
                rw [ix_in hk' hk24] at hgood
                refine lv_aload_n S.1 S.2.1 dX0_ask_102 rfl (lv_at hl 3 rfl) ?_
                refine x_g3 S hw dX0_ask_103 ?_
                refine lv_aload_n S.1 S.2.1 dX0_ask_106 rfl (lv_at hl 3 rfl) ?_
                refine x_g4 S hw dX0_ask_107 ?_
                refine lv_iload_n S.1 S.2.1 dX0_ask_110 rfl (lv_at hl 4 rfl) ?_
                refine n_i2b S (by omega) dX0_ask_111 ?_
                refine x_s3 S hw (by omega) (by omega) dX0_ask_112 (fun u17 eu17 H locs hw => ?_)
                refine lv_aload_n S.1 S.2.1 dX0_ask_113 rfl (lv_at hl 3 rfl) ?_
                refine lv_dup S.1 S.2.1 dX0_ask_114 rfl ?_
                refine x_g4 S hw dX0_ask_115 ?_
                refine lv_iconst (v := nI 1) S.1 S.2.1 dX0_ask_118 (by decide) ?_
                refine n_iadd S dX0_ask_119 ?_
                refine x_p4 S hw dX0_ask_120 (fun u18 eu18 H locs hw => ?_)
                refine lv_aload_n S.1 S.2.1 dX0_ask_123 rfl (lv_at hl 3 rfl) ?_
                refine x_g4 S hw dX0_ask_124 ?_
                have f3 : u18 3 = va_up (u 3) (u 4 0) k := by rw [eu18, gup_n _ _ _ (by decide), eu17, gup_s, hf 3 (by decide), h4]
                have f4 : u18 4 0 = u 4 0 + 1 := by rw [eu18, gup_s, va_up_self, eu17, gup_n _ _ _ (by decide), h4]
                have f0 : u18 0 = u 0 := by rw [eu18, gup_n _ _ _ (by decide), eu17, gup_n _ _ _ (by decide), hf 0 (by decide)]
                have f1 : u18 1 = u 1 := by rw [eu18, gup_n _ _ _ (by decide), eu17, gup_n _ _ _ (by decide), hf 1 (by decide)]
                have f2 : u18 2 = u 2 := by rw [eu18, gup_n _ _ _ (by decide), eu17, gup_n _ _ _ (by decide), hf 2 (by decide)]
                refine hret _ _ dX0_ask_127 rfl ⟨?_, f0, f1, ?_⟩ hw
                · unfold asF; rw [ix_in hk' hk24, if_neg (by omega), if_pos (Or.inl ⟨hpl, hgood⟩), f3, f4]
                · refine ⟨by rw [f0]; exact hI.1, by rw [f1]; exact hI.2.1, by rw [f0, f1, f2]; exact hI.2.2.1, ?_⟩
                  rw [f3, f4]
                  exact qI_add hq (by omega) hk24 hnd0 (Or.inl ⟨hpl, hgood.1⟩)
              · refine lv_iconst (v := (-1)) S.1 S.2.1 dX0_ask_100 (by decide) ?_
                exact hret _ _ dX0_ask_101 rfl ⟨by unfold asF; rw [if_neg (by omega), if_neg (fun q => by rcases q with q | q; (exact bN_0 c97 q.2); (omega)), hf 3 (by decide), h4], by rw [hf 0 (by decide)], by rw [hf 1 (by decide)], xI_kp hI (fun a ha => hf a (Or.inl ha))⟩ hw
            · refine lv_iconst (v := nI 1) S.1 S.2.1 dX0_ask_72 (by decide) ?_
              refine lv_goto (tgt := 77) S.1 S.2.1 dX0_ask_73 (by decide) ?_
              refine lv_istore_n (lv' := [(3, .int (nI 1)), (2, .int (nI top)), (0, .ref (h 0)), (1, .int a)]) S.1 S.2.1 dX0_ask_77 rfl hl (by decide) rfl (fun ls hl => ?_)
              have hpl : pl (u 3) (u 4 0) (nd (u 3) (u 4 0) - 1) = 2 := by rw [← hk]; exact kd_is2 (Or.inr (by have z := bN_1 c69; rw [ix_nI (by omega)] at z; omega))
              refine lv_iload_n S.1 S.2.1 dX0_ask_78 rfl (lv_at hl 0 rfl) ?_
              refine n_if_eq (tgt := 89) S (by decide) dX0_ask_79 (by decide) (fun c => absurd c (by decide)) (fun _ => ?_)
              refine lv_iload_n S.1 S.2.1 dX0_ask_82 rfl (lv_at hl 3 rfl) ?_
              refine g_calls (As := [.int a]) (rest := []) S hw (mX_isSpan l D h d u1 a) (cw_X0_X0_isSpan S.2.2.2.2 ⟨by decide, by decide⟩) rfl hl.1 rfl (Nat.le_of_ble_eq_true rfl) dX0_ask_83 ⟨Nat.zero_le _, Nat.zero_le _⟩ (fun r19 u19 H locs hp19 hw => ?_)
              obtain ⟨rfl, rfl⟩ := hp19
              refine lv_goto (tgt := 93) S.1 S.2.1 dX0_ask_86 (by decide) ?_
              refine lv_istore (lv' := [(4, .int (nI (bN (ix 24 a ≤ 18)))), (3, .int (nI 1)), (2, .int (nI top)), (0, .ref (h 0)), (1, .int a)]) S.1 S.2.1 dX0_ask_93 hl (by decide) rfl (fun ls hl => ?_)
              refine lv_iload S.1 S.2.1 dX0_ask_95 (lv_at hl 0 rfl) ?_
              refine n_if_ne (tgt := 102) S (by exact bN_lt _) dX0_ask_97 (by decide) (fun c97 => ?_) (fun c97 => ?_)
              · have hgood := bN_1 c97
                obtain ⟨k, hk24, rfl, hk'⟩ := ix_lt (N := 24) (x := a) (by omega)
                rw [ix_in hk' hk24] at hgood
                refine lv_aload_n S.1 S.2.1 dX0_ask_102 rfl (lv_at hl 3 rfl) ?_
                refine x_g3 S hw dX0_ask_103 ?_
                refine lv_aload_n S.1 S.2.1 dX0_ask_106 rfl (lv_at hl 3 rfl) ?_
                refine x_g4 S hw dX0_ask_107 ?_
                refine lv_iload_n S.1 S.2.1 dX0_ask_110 rfl (lv_at hl 4 rfl) ?_
                refine n_i2b S (by omega) dX0_ask_111 ?_
                refine x_s3 S hw (by omega) (by omega) dX0_ask_112 (fun u20 eu20 H locs hw => ?_)
                refine lv_aload_n S.1 S.2.1 dX0_ask_113 rfl (lv_at hl 3 rfl) ?_
                refine lv_dup S.1 S.2.1 dX0_ask_114 rfl ?_
                refine x_g4 S hw dX0_ask_115 ?_
                refine lv_iconst (v := nI 1) S.1 S.2.1 dX0_ask_118 (by decide) ?_
                refine n_iadd S dX0_ask_119 ?_
                refine x_p4 S hw dX0_ask_120 (fun u21 eu21 H locs hw => ?_)
                refine lv_aload_n S.1 S.2.1 dX0_ask_123 rfl (lv_at hl 3 rfl) ?_
                refine x_g4 S hw dX0_ask_124 ?_
                have f3 : u21 3 = va_up (u 3) (u 4 0) k := by rw [eu21, gup_n _ _ _ (by decide), eu20, gup_s, hf 3 (by decide), h4]
                have f4 : u21 4 0 = u 4 0 + 1 := by rw [eu21, gup_s, va_up_self, eu20, gup_n _ _ _ (by decide), h4]
                have f0 : u21 0 = u 0 := by rw [eu21, gup_n _ _ _ (by decide), eu20, gup_n _ _ _ (by decide), hf 0 (by decide)]
                have f1 : u21 1 = u 1 := by rw [eu21, gup_n _ _ _ (by decide), eu20, gup_n _ _ _ (by decide), hf 1 (by decide)]
                have f2 : u21 2 = u 2 := by rw [eu21, gup_n _ _ _ (by decide), eu20, gup_n _ _ _ (by decide), hf 2 (by decide)]
                refine hret _ _ dX0_ask_127 rfl ⟨?_, f0, f1, ?_⟩ hw
                · unfold asF; rw [ix_in hk' hk24, if_neg (by omega), if_pos (Or.inr ⟨hpl, hgood⟩), f3, f4]
                · refine ⟨by rw [f0]; exact hI.1, by rw [f1]; exact hI.2.1, by rw [f0, f1, f2]; exact hI.2.2.1, ?_⟩
                  rw [f3, f4]
                  exact qI_add hq (by omega) hk24 hnd0 (Or.inr ⟨hpl, hgood⟩)
              · refine lv_iconst (v := (-1)) S.1 S.2.1 dX0_ask_100 (by decide) ?_
                exact hret _ _ dX0_ask_101 rfl ⟨by unfold asF; rw [if_neg (by omega), if_neg (fun q => by rcases q with q | q; (omega); (exact bN_0 c97 q.2)), hf 3 (by decide), h4], by rw [hf 0 (by decide)], by rw [hf 1 (by decide)], xI_kp hI (fun a ha => hf a (Or.inl ha))⟩ hw
      · refine lv_bipush (v := (-2)) S.1 S.2.1 dX0_ask_27 (by decide) ?_
        exact hret _ _ dX0_ask_29 rfl ⟨by unfold asF; rw [if_pos (Or.inr ((RI_end hr (by omega)).1.mp c24)), hf 3 (by decide), h4], by rw [hf 0 (by decide)], by rw [hf 1 (by decide)], xI_kp hI (fun a ha => hf a (Or.inl ha))⟩ hw
end
section
/-! working out in PhraseIndex, printed by gen/xwork.py -/
set_option maxRecDepth 100000
def cbv (tk : Nat) (r1 r2 : Nat → Nat) (b : Nat) : Nat := if tk = 12 then r1 b ||| r2 b else if tk = 18 then r1 b &&& ((1 <<< mxf r2 (b + 1)) - 1) else thf (r1 b) r2 (tk - 13) (24 - (tk - 13))
def cdv (tk a b : Nat) (row : Nat → Nat) : Nat := if tk = 20 then bN (a = 1 ∧ b = 1) else if tk = 21 then bN (a = 1 ∨ b = 1) else if tk = 22 then bN (¬ a = 1) else bN (anf row 24 ≠ 0)
set_option maxHeartbeats 4000000 in
theorem mX_combine (l : Launch) (D : va_G) (h : Nat → Nat) (d : Nat → ClassId) (u : gU) (k tk : Nat) (hk : k + 1 < 12) (h1 : 12 ≤ tk) (h2 : tk ≤ 18) (hs : u 5 k < 12) (hsk : k < u 5 k) (hE1 : ∀ b, b < 24 → u 9 (24 * (k + 1) + b) < 2 ^ 24) (hE2 : ∀ b, b < 24 → u 9 (24 * u 5 k + b) < 2 ^ 24) : gMv l yX0_combine cX0_combine 9 (rk 1) D (xL h d) (xT d) [.ref (h 0), .int (nI k), .int (nI tk)] u (fun u' => RS 9 u u' k 24 (cbv tk (fun b => u 9 (24 * (k + 1) + b)) (fun b => u 9 (24 * u 5 k + b)))) := by
  refine gMv_of (by decide) (Nat.le_of_ble_eq_true rfl) ?_
  intro p e s m args below meth c A Q ls S hw hl hret
  have S : CallFix p m c cX0_combine 9 s args lw_all RX0 := S
  have hl : lv_has ls 9 [(0, .ref (h 0)), (1, .int (nI k)), (2, .int (nI tk))] := hl
  refine lv_iload_n S.1 S.2.1 dX0_combine_0 rfl (lv_at hl 1 rfl) ?_
  refine lv_iconst (v := nI 1) S.1 S.2.1 dX0_combine_1 (by decide) ?_
  refine n_iadd S dX0_combine_2 ?_
  refine lv_bipush (v := nI 24) S.1 S.2.1 dX0_combine_3 (by decide) ?_
  refine n_imulc S dX0_combine_5 ?_
  refine lv_istore_n (lv' := [(3, .int (nI (24 * (k + 1)))), (0, .ref (h 0)), (1, .int (nI k)), (2, .int (nI tk))]) S.1 S.2.1 dX0_combine_6 rfl hl (by decide) rfl (fun ls hl => ?_)
  refine lv_aload_n S.1 S.2.1 dX0_combine_7 rfl (lv_at hl 1 rfl) ?_
  refine x_g5 S hw dX0_combine_8 ?_
  refine lv_iload_n S.1 S.2.1 dX0_combine_11 rfl (lv_at hl 2 rfl) ?_
  refine x_l5 S hw (by omega) dX0_combine_12 ?_
  refine lv_bipush (v := nI 24) S.1 S.2.1 dX0_combine_13 (by decide) ?_
  refine n_imulc S dX0_combine_15 ?_
  refine lv_istore (lv' := [(4, .int (nI (24 * (u 5 k)))), (3, .int (nI (24 * (k + 1)))), (0, .ref (h 0)), (1, .int (nI k)), (2, .int (nI tk))]) S.1 S.2.1 dX0_combine_16 hl (by decide) rfl (fun ls hl => ?_)
  refine lv_iconst (v := pI 0) S.1 S.2.1 dX0_combine_18 (by decide) ?_
  refine lv_istore (lv' := [(5, .int (pI 0)), (4, .int (nI (24 * (u 5 k)))), (3, .int (nI (24 * (k + 1)))), (0, .ref (h 0)), (1, .int (nI k)), (2, .int (nI tk))]) S.1 S.2.1 dX0_combine_19 hl (by decide) rfl (fun ls hl => ?_)
  refine lv_iconst (v := nI 0) S.1 S.2.1 dX0_combine_21 (by decide) ?_
  refine lv_istore (lv' := [(6, .int (nI 0)), (5, .int (pI 0)), (4, .int (nI (24 * (u 5 k)))), (3, .int (nI (24 * (k + 1)))), (0, .ref (h 0)), (1, .int (nI k)), (2, .int (nI tk))]) S.1 S.2.1 dX0_combine_22 hl (by decide) rfl (fun ls hl => ?_)
  have lp : ∀ (n : Nat) (b fa : Nat) (uu : gU), (b ≤ 24) → (25 ≤ b + n) → (RS 9 u uu k b (cbv tk (fun b => u 9 (24 * (k + 1) + b)) (fun b => u 9 (24 * u 5 k + b)))) → (fa ≤ 24) → (tk = 18 → fa = mxf (fun b => u 9 (24 * u 5 k + b)) b) → ∀ (H : Heap) (locs : List Loc) (ls : Array Slot), xW D h d A s H locs uu → lv_has ls 9 [(6, .int (nI b)), (5, .int (pI fa)), (4, .int (nI (24 * u 5 k))), (3, .int (nI (24 * (k + 1)))), (0, .ref (h 0)), (1, .int (nI k)), (2, .int (nI tk))] → W p l e (rk 1) s m args below meth c H locs 0 0 Q (F0 m 24 ls []) := by
    intro n
    induction n with
    | zero =>
      intro b fa uu hb hn hr hfa hfm
      exfalso; omega
    | succ n ih =>
      intro b fa uu hb hn hr hfa hfm H locs ls hw hl
      have e1 : uu 9 (24 * (k + 1) + b) = u 9 (24 * (k + 1) + b) := RS_out hr (by omega)
      have e2 : ∀ c, uu 9 (24 * u 5 k + c) = u 9 (24 * u 5 k + c) := fun c => RS_out hr (by omega)
      refine lv_iload S.1 S.2.1 dX0_combine_24 (lv_at hl 0 rfl) ?_
      refine lv_bipush (v := nI 24) S.1 S.2.1 dX0_combine_26 (by decide) ?_
      refine n_icmp_ge (tgt := 150) S (by omega) (by omega) dX0_combine_28 (by decide) (fun c28 => ?_) (fun c28 => ?_)
      · exact hret _ dX0_combine_150 (by rw [show b = 24 by omega] at hr; exact hr) hw
      · have b1 := hE1 b (by omega)
        have b2 := hE2 b (by omega)
        refine lv_aload_n S.1 S.2.1 dX0_combine_31 rfl (lv_at hl 4 rfl) ?_
        refine x_g9 S hw dX0_combine_32 ?_
        refine lv_iload_n S.1 S.2.1 dX0_combine_35 rfl (lv_at hl 3 rfl) ?_
        refine lv_iload S.1 S.2.1 dX0_combine_36 (lv_at hl 0 rfl) ?_
        refine n_iadd S dX0_combine_38 ?_
        refine x_l9 S hw (by omega) dX0_combine_39 ?_
        refine lv_istore (lv' := [(7, .int (nI (uu 9 ((24 * (k + 1)) + b)))), (6, .int (nI b)), (5, .int (pI fa)), (4, .int (nI (24 * u 5 k))), (3, .int (nI (24 * (k + 1)))), (0, .ref (h 0)), (1, .int (nI k)), (2, .int (nI tk))]) S.1 S.2.1 dX0_combine_40 hl (by decide) rfl (fun ls hl => ?_)
        refine lv_iload_n S.1 S.2.1 dX0_combine_42 rfl (lv_at hl 7 rfl) ?_
        refine lv_bipush (v := nI 12) S.1 S.2.1 dX0_combine_43 (by decide) ?_
        refine n_icmp_ne (tgt := 66) S (by omega) (by omega) dX0_combine_45 (by decide) (fun c45 => ?_) (fun c45 => ?_)
        · refine lv_iload_n S.1 S.2.1 dX0_combine_66 rfl (lv_at hl 7 rfl) ?_
          refine lv_bipush (v := nI 18) S.1 S.2.1 dX0_combine_67 (by decide) ?_
          refine n_icmp_ne (tgt := 116) S (by omega) (by omega) dX0_combine_69 (by decide) (fun c69 => ?_) (fun c69 => ?_)
          · refine lv_aload_n S.1 S.2.1 dX0_combine_116 rfl (lv_at hl 5 rfl) ?_
            refine lv_iload S.1 S.2.1 dX0_combine_117 (lv_at hl 0 rfl) ?_
            refine lv_iload_n S.1 S.2.1 dX0_combine_119 rfl (lv_at hl 7 rfl) ?_
            refine lv_bipush (v := nI 13) S.1 S.2.1 dX0_combine_120 (by decide) ?_
            refine n_isub S (by omega) dX0_combine_122 ?_
            refine lv_iload S.1 S.2.1 dX0_combine_123 (lv_at hl 3 rfl) ?_
            refine g_calli (As := [.int (nI (uu 9 ((24 * (k + 1)) + b))), .int (nI (tk - 13)), .int (nI (24 * u 5 k))]) (rest := []) S hw (b := h 0) rfl rfl (mX_goOn l D h d uu (uu 9 ((24 * (k + 1)) + b)) (tk - 13) (24 * u 5 k) (by omega) (by omega) (by omega)) (cw_X0_X0_goOn S.2.2.2.2 ⟨by decide, by decide⟩) rfl hl.1 rfl (Nat.le_of_ble_eq_true rfl) dX0_combine_125 ⟨Nat.zero_le _, Nat.zero_le _⟩ (fun r1 u1 H locs hp1 hw => ?_)
            obtain ⟨rfl, rfl⟩ := hp1
            refine lv_istore (lv' := [(7, .int (nI (thf (uu 9 ((24 * (k + 1)) + b)) (fun b => uu 9 (24 * u 5 k + b)) (tk - 13) (24 - (tk - 13))))), (6, .int (nI b)), (5, .int (pI fa)), (4, .int (nI (24 * u 5 k))), (3, .int (nI (24 * (k + 1)))), (0, .ref (h 0)), (1, .int (nI k)), (2, .int (nI tk))]) S.1 S.2.1 dX0_combine_128 hl (by decide) rfl (fun ls hl => ?_)
            have hval : thf (uu 9 ((24 * (k + 1)) + b)) (fun b => uu 9 (24 * u 5 k + b)) (tk - 13) (24 - (tk - 13)) = cbv tk (fun b => u 9 (24 * (k + 1) + b)) (fun b => u 9 (24 * u 5 k + b)) b := by rw [e1]; unfold cbv; rw [if_neg c45, if_neg c69]; exact thf_congr (fun b _ => e2 b) _ (by omega)
            refine lv_aload_n S.1 S.2.1 dX0_combine_130 rfl (lv_at hl 5 rfl) ?_
            refine x_g9 S hw dX0_combine_131 ?_
            refine lv_iload_n S.1 S.2.1 dX0_combine_134 rfl (lv_at hl 6 rfl) ?_
            refine lv_bipush (v := nI 24) S.1 S.2.1 dX0_combine_135 (by decide) ?_
            refine n_imulc S dX0_combine_137 ?_
            refine lv_iload S.1 S.2.1 dX0_combine_138 (lv_at hl 1 rfl) ?_
            refine n_iadd S dX0_combine_140 ?_
            refine lv_iload S.1 S.2.1 dX0_combine_141 (lv_at hl 0 rfl) ?_
            refine x_s9 S hw (by omega) dX0_combine_143 (fun u2 eu2 H locs hw => ?_)
            refine n_iinc (k := 1) (lv' := [(6, .int (nI (b + 1))), (7, .int (nI (thf (uu 9 ((24 * (k + 1)) + b)) (fun b => uu 9 (24 * u 5 k + b)) (tk - 13) (24 - (tk - 13))))), (5, .int (pI fa)), (4, .int (nI (24 * u 5 k))), (3, .int (nI (24 * (k + 1)))), (0, .ref (h 0)), (1, .int (nI k)), (2, .int (nI tk))]) S dX0_combine_144 hl rfl (by decide) rfl (fun ls hl => ?_)
            refine lv_goto (tgt := 24) S.1 S.2.1 dX0_combine_147 (by decide) ?_
            exact ih (b + 1) fa u2 (by omega) (by omega) (RS_s hr (by rw [eu2, hval])) hfa (fun q => by omega) _ _ _ hw (lv_sub hl [0, 2, 3, 4, 5, 6, 7] rfl)
          · have hg : gtf (uu 9 (24 * u 5 k + b)) 24 = gtf (u 9 (24 * u 5 k + b)) 24 := by rw [e2]
            have hgl := gtf_le (uu 9 (24 * u 5 k + b)) 24
            refine lv_aload_n S.1 S.2.1 dX0_combine_72 rfl (lv_at hl 5 rfl) ?_
            refine x_g9 S hw dX0_combine_73 ?_
            refine lv_iload S.1 S.2.1 dX0_combine_76 (lv_at hl 3 rfl) ?_
            refine lv_iload S.1 S.2.1 dX0_combine_78 (lv_at hl 1 rfl) ?_
            refine n_iadd S dX0_combine_80 ?_
            refine x_l9 S hw (by omega) dX0_combine_81 ?_
            refine g_calls (As := [.int (nI (uu 9 ((24 * u 5 k) + b)))]) (rest := []) S hw (mX_greatest l D h d uu (uu 9 ((24 * u 5 k) + b)) (by rw [e2]; omega)) (cw_X0_X0_greatest S.2.2.2.2 ⟨by decide, by decide⟩) rfl hl.1 rfl (Nat.le_of_ble_eq_true rfl) dX0_combine_82 ⟨Nat.zero_le _, Nat.zero_le _⟩ (fun r3 u3 H locs hp3 hw => ?_)
            obtain ⟨rfl, rfl⟩ := hp3
            refine lv_istore (lv' := [(8, .int (pI (gtf (uu 9 ((24 * u 5 k) + b)) 24))), (7, .int (nI (uu 9 ((24 * (k + 1)) + b)))), (6, .int (nI b)), (5, .int (pI fa)), (4, .int (nI (24 * u 5 k))), (3, .int (nI (24 * (k + 1)))), (0, .ref (h 0)), (1, .int (nI k)), (2, .int (nI tk))]) S.1 S.2.1 dX0_combine_85 hl (by decide) rfl (fun ls hl => ?_)
            refine lv_iload S.1 S.2.1 dX0_combine_87 (lv_at hl 0 rfl) ?_
            refine lv_iload S.1 S.2.1 dX0_combine_89 (lv_at hl 3 rfl) ?_
            refine p_icmp_le (tgt := 99) S (by omega) (by omega) dX0_combine_91 (by decide) (fun c91 => ?_) (fun c91 => ?_)
            · refine lv_iload S.1 S.2.1 dX0_combine_99 (lv_at hl 3 rfl) ?_
              refine lv_istore (lv' := [(5, .int (pI fa)), (8, .int (pI (gtf (uu 9 ((24 * u 5 k) + b)) 24))), (7, .int (nI (uu 9 ((24 * (k + 1)) + b)))), (6, .int (nI b)), (4, .int (nI (24 * u 5 k))), (3, .int (nI (24 * (k + 1)))), (0, .ref (h 0)), (1, .int (nI k)), (2, .int (nI tk))]) S.1 S.2.1 dX0_combine_101 hl (by decide) rfl (fun ls hl => ?_)
              refine lv_iload S.1 S.2.1 dX0_combine_103 (lv_at hl 2 rfl) ?_
              refine lv_iload S.1 S.2.1 dX0_combine_105 (lv_at hl 0 rfl) ?_
              refine g_calls (As := [.int (pI fa)]) (rest := [.int (nI (uu 9 ((24 * (k + 1)) + b)))]) S hw (mX_upTo l D h d uu (fa) (by omega)) (cw_X0_X0_upTo S.2.2.2.2 ⟨by decide, by decide⟩) rfl hl.1 rfl (Nat.le_of_ble_eq_true rfl) dX0_combine_107 ⟨Nat.zero_le _, Nat.zero_le _⟩ (fun r4 u4 H locs hp4 hw => ?_)
              obtain ⟨rfl, rfl⟩ := hp4
              refine n_iand S dX0_combine_110 ?_
              refine lv_istore (lv' := [(7, .int (nI ((uu 9 ((24 * (k + 1)) + b)) &&& ((1 <<< fa) - 1)))), (5, .int (pI fa)), (8, .int (pI (gtf (uu 9 ((24 * u 5 k) + b)) 24))), (6, .int (nI b)), (4, .int (nI (24 * u 5 k))), (3, .int (nI (24 * (k + 1)))), (0, .ref (h 0)), (1, .int (nI k)), (2, .int (nI tk))]) S.1 S.2.1 dX0_combine_111 hl (by decide) rfl (fun ls hl => ?_)
              refine lv_goto (tgt := 130) S.1 S.2.1 dX0_combine_113 (by decide) ?_
              have hm : fa = mxf (fun b => u 9 (24 * u 5 k + b)) (b + 1) := by
                show _ = max (mxf (fun b => u 9 (24 * u 5 k + b)) b) (gtf (u 9 (24 * u 5 k + b)) 24)
                rw [← hfm c69]
                omega
              have hval : (uu 9 ((24 * (k + 1)) + b)) &&& ((1 <<< fa) - 1) = cbv tk (fun b => u 9 (24 * (k + 1) + b)) (fun b => u 9 (24 * u 5 k + b)) b := by rw [e1, hm]; unfold cbv; rw [if_neg c45, if_pos c69]
              refine lv_aload_n S.1 S.2.1 dX0_combine_130 rfl (lv_at hl 6 rfl) ?_
              refine x_g9 S hw dX0_combine_131 ?_
              refine lv_iload_n S.1 S.2.1 dX0_combine_134 rfl (lv_at hl 7 rfl) ?_
              refine lv_bipush (v := nI 24) S.1 S.2.1 dX0_combine_135 (by decide) ?_
              refine n_imulc S dX0_combine_137 ?_
              refine lv_iload S.1 S.2.1 dX0_combine_138 (lv_at hl 3 rfl) ?_
              refine n_iadd S dX0_combine_140 ?_
              refine lv_iload S.1 S.2.1 dX0_combine_141 (lv_at hl 0 rfl) ?_
              refine x_s9 S hw (by omega) dX0_combine_143 (fun u5 eu5 H locs hw => ?_)
              refine n_iinc (k := 3) (lv' := [(6, .int (nI (b + 1))), (7, .int (nI ((uu 9 ((24 * (k + 1)) + b)) &&& ((1 <<< fa) - 1)))), (5, .int (pI fa)), (8, .int (pI (gtf (uu 9 ((24 * u 5 k) + b)) 24))), (4, .int (nI (24 * u 5 k))), (3, .int (nI (24 * (k + 1)))), (0, .ref (h 0)), (1, .int (nI k)), (2, .int (nI tk))]) S dX0_combine_144 hl rfl (by decide) rfl (fun ls hl => ?_)
              refine lv_goto (tgt := 24) S.1 S.2.1 dX0_combine_147 (by decide) ?_
              exact ih (b + 1) fa u5 (by omega) (by omega) (RS_s hr (by rw [eu5, hval])) (by omega) (fun _ => hm) _ _ _ hw (lv_sub hl [0, 2, 4, 5, 6, 7, 8] rfl)
            · refine lv_iload S.1 S.2.1 dX0_combine_94 (lv_at hl 0 rfl) ?_
              refine lv_goto (tgt := 101) S.1 S.2.1 dX0_combine_96 (by decide) ?_
              refine lv_istore (lv' := [(5, .int (pI (gtf (uu 9 ((24 * u 5 k) + b)) 24))), (8, .int (pI (gtf (uu 9 ((24 * u 5 k) + b)) 24))), (7, .int (nI (uu 9 ((24 * (k + 1)) + b)))), (6, .int (nI b)), (4, .int (nI (24 * u 5 k))), (3, .int (nI (24 * (k + 1)))), (0, .ref (h 0)), (1, .int (nI k)), (2, .int (nI tk))]) S.1 S.2.1 dX0_combine_101 hl (by decide) rfl (fun ls hl => ?_)
              refine lv_iload S.1 S.2.1 dX0_combine_103 (lv_at hl 2 rfl) ?_
              refine lv_iload S.1 S.2.1 dX0_combine_105 (lv_at hl 0 rfl) ?_
              refine g_calls (As := [.int (pI (gtf (uu 9 ((24 * u 5 k) + b)) 24))]) (rest := [.int (nI (uu 9 ((24 * (k + 1)) + b)))]) S hw (mX_upTo l D h d uu (gtf (uu 9 ((24 * u 5 k) + b)) 24) (by omega)) (cw_X0_X0_upTo S.2.2.2.2 ⟨by decide, by decide⟩) rfl hl.1 rfl (Nat.le_of_ble_eq_true rfl) dX0_combine_107 ⟨Nat.zero_le _, Nat.zero_le _⟩ (fun r6 u6 H locs hp6 hw => ?_)
              obtain ⟨rfl, rfl⟩ := hp6
              refine n_iand S dX0_combine_110 ?_
              refine lv_istore (lv' := [(7, .int (nI ((uu 9 ((24 * (k + 1)) + b)) &&& ((1 <<< (gtf (uu 9 ((24 * u 5 k) + b)) 24)) - 1)))), (5, .int (pI (gtf (uu 9 ((24 * u 5 k) + b)) 24))), (8, .int (pI (gtf (uu 9 ((24 * u 5 k) + b)) 24))), (6, .int (nI b)), (4, .int (nI (24 * u 5 k))), (3, .int (nI (24 * (k + 1)))), (0, .ref (h 0)), (1, .int (nI k)), (2, .int (nI tk))]) S.1 S.2.1 dX0_combine_111 hl (by decide) rfl (fun ls hl => ?_)
              refine lv_goto (tgt := 130) S.1 S.2.1 dX0_combine_113 (by decide) ?_
              have hm : gtf (uu 9 ((24 * u 5 k) + b)) 24 = mxf (fun b => u 9 (24 * u 5 k + b)) (b + 1) := by
                show _ = max (mxf (fun b => u 9 (24 * u 5 k + b)) b) (gtf (u 9 (24 * u 5 k + b)) 24)
                rw [← hfm c69]
                omega
              have hval : (uu 9 ((24 * (k + 1)) + b)) &&& ((1 <<< (gtf (uu 9 ((24 * u 5 k) + b)) 24)) - 1) = cbv tk (fun b => u 9 (24 * (k + 1) + b)) (fun b => u 9 (24 * u 5 k + b)) b := by rw [e1, hm]; unfold cbv; rw [if_neg c45, if_pos c69]
              refine lv_aload_n S.1 S.2.1 dX0_combine_130 rfl (lv_at hl 6 rfl) ?_
              refine x_g9 S hw dX0_combine_131 ?_
              refine lv_iload_n S.1 S.2.1 dX0_combine_134 rfl (lv_at hl 7 rfl) ?_
              refine lv_bipush (v := nI 24) S.1 S.2.1 dX0_combine_135 (by decide) ?_
              refine n_imulc S dX0_combine_137 ?_
              refine lv_iload S.1 S.2.1 dX0_combine_138 (lv_at hl 3 rfl) ?_
              refine n_iadd S dX0_combine_140 ?_
              refine lv_iload S.1 S.2.1 dX0_combine_141 (lv_at hl 0 rfl) ?_
              refine x_s9 S hw (by omega) dX0_combine_143 (fun u7 eu7 H locs hw => ?_)
              refine n_iinc (k := 3) (lv' := [(6, .int (nI (b + 1))), (7, .int (nI ((uu 9 ((24 * (k + 1)) + b)) &&& ((1 <<< (gtf (uu 9 ((24 * u 5 k) + b)) 24)) - 1)))), (5, .int (pI (gtf (uu 9 ((24 * u 5 k) + b)) 24))), (8, .int (pI (gtf (uu 9 ((24 * u 5 k) + b)) 24))), (4, .int (nI (24 * u 5 k))), (3, .int (nI (24 * (k + 1)))), (0, .ref (h 0)), (1, .int (nI k)), (2, .int (nI tk))]) S dX0_combine_144 hl rfl (by decide) rfl (fun ls hl => ?_)
              refine lv_goto (tgt := 24) S.1 S.2.1 dX0_combine_147 (by decide) ?_
              exact ih (b + 1) (gtf (uu 9 ((24 * u 5 k) + b)) 24) u7 (by omega) (by omega) (RS_s hr (by rw [eu7, hval])) (by omega) (fun _ => hm) _ _ _ hw (lv_sub hl [0, 2, 4, 5, 6, 7, 8] rfl)
        · refine lv_iload S.1 S.2.1 dX0_combine_48 (lv_at hl 0 rfl) ?_
          refine lv_aload_n S.1 S.2.1 dX0_combine_50 rfl (lv_at hl 5 rfl) ?_
          refine x_g9 S hw dX0_combine_51 ?_
          refine lv_iload S.1 S.2.1 dX0_combine_54 (lv_at hl 3 rfl) ?_
          refine lv_iload S.1 S.2.1 dX0_combine_56 (lv_at hl 1 rfl) ?_
          refine n_iadd S dX0_combine_58 ?_
          refine x_l9 S hw (by omega) dX0_combine_59 ?_
          refine n_ior S dX0_combine_60 ?_
          refine lv_istore (lv' := [(7, .int (nI ((uu 9 ((24 * (k + 1)) + b)) ||| (uu 9 ((24 * u 5 k) + b))))), (6, .int (nI b)), (5, .int (pI fa)), (4, .int (nI (24 * u 5 k))), (3, .int (nI (24 * (k + 1)))), (0, .ref (h 0)), (1, .int (nI k)), (2, .int (nI tk))]) S.1 S.2.1 dX0_combine_61 hl (by decide) rfl (fun ls hl => ?_)
          refine lv_goto (tgt := 130) S.1 S.2.1 dX0_combine_63 (by decide) ?_
          have hval : (uu 9 ((24 * (k + 1)) + b)) ||| (uu 9 ((24 * u 5 k) + b)) = cbv tk (fun b => u 9 (24 * (k + 1) + b)) (fun b => u 9 (24 * u 5 k + b)) b := by rw [e1, e2]; unfold cbv; rw [if_pos c45]
          refine lv_aload_n S.1 S.2.1 dX0_combine_130 rfl (lv_at hl 5 rfl) ?_
          refine x_g9 S hw dX0_combine_131 ?_
          refine lv_iload_n S.1 S.2.1 dX0_combine_134 rfl (lv_at hl 6 rfl) ?_
          refine lv_bipush (v := nI 24) S.1 S.2.1 dX0_combine_135 (by decide) ?_
          refine n_imulc S dX0_combine_137 ?_
          refine lv_iload S.1 S.2.1 dX0_combine_138 (lv_at hl 1 rfl) ?_
          refine n_iadd S dX0_combine_140 ?_
          refine lv_iload S.1 S.2.1 dX0_combine_141 (lv_at hl 0 rfl) ?_
          refine x_s9 S hw (by omega) dX0_combine_143 (fun u8 eu8 H locs hw => ?_)
          refine n_iinc (k := 1) (lv' := [(6, .int (nI (b + 1))), (7, .int (nI ((uu 9 ((24 * (k + 1)) + b)) ||| (uu 9 ((24 * u 5 k) + b))))), (5, .int (pI fa)), (4, .int (nI (24 * u 5 k))), (3, .int (nI (24 * (k + 1)))), (0, .ref (h 0)), (1, .int (nI k)), (2, .int (nI tk))]) S dX0_combine_144 hl rfl (by decide) rfl (fun ls hl => ?_)
          refine lv_goto (tgt := 24) S.1 S.2.1 dX0_combine_147 (by decide) ?_
          exact ih (b + 1) fa u8 (by omega) (by omega) (RS_s hr (by rw [eu8, hval])) hfa (fun q => by omega) _ _ _ hw (lv_sub hl [0, 2, 3, 4, 5, 6, 7] rfl)
  exact lp 25 0 0 u (by omega) (by omega) (RS_0 _ _ _ _) (by omega) (fun _ => rfl) _ _ _ hw (lv_sub hl [0, 1, 2, 3, 4, 5, 6] rfl)
theorem fst_any {row : Nat → Nat} {r : Int32} (h : isFst (fun c => nI 0 ≤ nI c ∧ row c ≠ 0) 24 r) : (r < 0 → anf row 24 = 0) ∧ (¬ r < 0 → anf row 24 ≠ 0) := by
  rcases h with ⟨c, h1, h2, h3, rfl⟩ | ⟨h1, rfl⟩
  · refine ⟨fun q => absurd q (nI_pos (by omega)), fun _ q => ?_⟩
    exact h2.2 ((anf_0 24).mp q c h1)
  · refine ⟨fun _ => (anf_0 24).mpr fun b hb => ?_, fun q => absurd (by decide) q⟩
    refine Classical.byContradiction fun q => h1 b hb ⟨nI_le (by omega) (by omega), q⟩
set_option maxHeartbeats 4000000 in
theorem mX_condition (l : Launch) (D : va_G) (h : Nat → Nat) (d : Nat → ClassId) (u : gU) (k tk : Nat) (hk : k + 1 < 12) (h1 : 20 ≤ tk) (h2 : tk ≤ 23) (hs : tk ≤ 21 → u 5 k < 12) (hT1 : tk ≤ 22 → u 10 (k + 1) < 2) (hT2 : tk ≤ 21 → u 10 (u 5 k) < 2) (hE : tk = 23 → ∀ b, b < 24 → u 9 (24 * (k + 1) + b) < 2 ^ 24) : gMi l yX0_condition cX0_condition 4 .boolean (rk 1) D (xL h d) (xT d) [.ref (h 0), .int (nI k), .int (nI tk)] u (fun r u' => r = nI (cdv tk (u 10 (k + 1)) (u 10 (u 5 k)) (fun b => u 9 (24 * (k + 1) + b))) ∧ u = u') := by
  refine gMi_of (by decide) (Nat.le_of_ble_eq_true rfl) ?_
  intro p e s m args below meth c A Q ls S hw hl hret
  have S : CallFix p m c cX0_condition 4 s args lw_all RX0 := S
  have hl : lv_has ls 4 [(0, .ref (h 0)), (1, .int (nI k)), (2, .int (nI tk))] := hl
  refine lv_aload_n S.1 S.2.1 dX0_condition_0 rfl (lv_at hl 0 rfl) ?_
  refine x_g10 S hw dX0_condition_1 ?_
  refine lv_iload_n S.1 S.2.1 dX0_condition_4 rfl (lv_at hl 1 rfl) ?_
  refine lv_iconst (v := nI 1) S.1 S.2.1 dX0_condition_5 (by decide) ?_
  refine n_iadd S dX0_condition_6 ?_
  refine x_l10 S hw (by omega) dX0_condition_7 ?_
  refine lv_istore_n (lv' := [(3, .int (nI (u 10 (k + 1)))), (0, .ref (h 0)), (1, .int (nI k)), (2, .int (nI tk))]) S.1 S.2.1 dX0_condition_8 rfl hl (by decide) rfl (fun ls hl => ?_)
  refine lv_iload_n S.1 S.2.1 dX0_condition_9 rfl (lv_at hl 3 rfl) ?_
  refine lv_bipush (v := nI 23) S.1 S.2.1 dX0_condition_10 (by decide) ?_
  refine n_icmp_ne (tgt := 32) S (by omega) (by omega) dX0_condition_12 (by decide) (fun c12 => ?_) (fun c12 => ?_)
  · refine lv_iload_n S.1 S.2.1 dX0_condition_32 rfl (lv_at hl 3 rfl) ?_
    refine lv_bipush (v := nI 22) S.1 S.2.1 dX0_condition_33 (by decide) ?_
    refine n_icmp_ne (tgt := 48) S (by omega) (by omega) dX0_condition_35 (by decide) (fun c35 => ?_) (fun c35 => ?_)
    · refine lv_iload_n S.1 S.2.1 dX0_condition_48 rfl (lv_at hl 3 rfl) ?_
      refine lv_bipush (v := nI 20) S.1 S.2.1 dX0_condition_49 (by decide) ?_
      refine n_icmp_ne (tgt := 80) S (by omega) (by omega) dX0_condition_51 (by decide) (fun c51 => ?_) (fun c51 => ?_)
      · refine lv_iload_n S.1 S.2.1 dX0_condition_80 rfl (lv_at hl 0 rfl) ?_
        refine n_if_ne (tgt := 98) S (by have := hT1 (by omega); omega) dX0_condition_81 (by decide) (fun c81 => ?_) (fun c81 => ?_)
        · refine lv_iconst (v := nI 1) S.1 S.2.1 dX0_condition_98 (by decide) ?_
          refine lv_goto (tgt := 103) S.1 S.2.1 dX0_condition_99 (by decide) ?_
          exact hret _ _ dX0_condition_103 (nI_zn _ (by decide)) ⟨congrArg nI (by unfold cdv; rw [if_neg c51, if_pos (by omega)]; have z1 := hT1 (by omega); exact (bN_t (by omega)).symm), rfl⟩ hw
        · refine lv_aload_n S.1 S.2.1 dX0_condition_84 rfl (lv_at hl 1 rfl) ?_
          refine x_g10 S hw dX0_condition_85 ?_
          refine lv_aload_n S.1 S.2.1 dX0_condition_88 rfl (lv_at hl 1 rfl) ?_
          refine x_g5 S hw dX0_condition_89 ?_
          refine lv_iload_n S.1 S.2.1 dX0_condition_92 rfl (lv_at hl 2 rfl) ?_
          refine x_l5 S hw (by omega) dX0_condition_93 ?_
          refine x_l10 S hw (by have := hs (by omega); omega) dX0_condition_94 ?_
          refine n_if_eq (tgt := 102) S (by have := hT2 (by omega); omega) dX0_condition_95 (by decide) (fun c95 => ?_) (fun c95 => ?_)
          · refine lv_iconst (v := nI 0) S.1 S.2.1 dX0_condition_102 (by decide) ?_
            exact hret _ _ dX0_condition_103 (nI_zn _ (by decide)) ⟨congrArg nI (by unfold cdv; rw [if_neg c51, if_pos (by omega)]; have z2 := hT2 (by omega); exact (bN_f (by omega)).symm), rfl⟩ hw
          · refine lv_iconst (v := nI 1) S.1 S.2.1 dX0_condition_98 (by decide) ?_
            refine lv_goto (tgt := 103) S.1 S.2.1 dX0_condition_99 (by decide) ?_
            exact hret _ _ dX0_condition_103 (nI_zn _ (by decide)) ⟨congrArg nI (by unfold cdv; rw [if_neg c51, if_pos (by omega)]; have z2 := hT2 (by omega); exact (bN_t (by omega)).symm), rfl⟩ hw
      · refine lv_iload_n S.1 S.2.1 dX0_condition_54 rfl (lv_at hl 0 rfl) ?_
        refine n_if_eq (tgt := 76) S (by have := hT1 (by omega); omega) dX0_condition_55 (by decide) (fun c55 => ?_) (fun c55 => ?_)
        · refine lv_iconst (v := nI 0) S.1 S.2.1 dX0_condition_76 (by decide) ?_
          refine lv_goto (tgt := 103) S.1 S.2.1 dX0_condition_77 (by decide) ?_
          exact hret _ _ dX0_condition_103 (nI_zn _ (by decide)) ⟨congrArg nI (by unfold cdv; rw [if_pos c51]; exact (bN_f (by omega)).symm), rfl⟩ hw
        · refine lv_aload_n S.1 S.2.1 dX0_condition_58 rfl (lv_at hl 1 rfl) ?_
          refine x_g10 S hw dX0_condition_59 ?_
          refine lv_aload_n S.1 S.2.1 dX0_condition_62 rfl (lv_at hl 1 rfl) ?_
          refine x_g5 S hw dX0_condition_63 ?_
          refine lv_iload_n S.1 S.2.1 dX0_condition_66 rfl (lv_at hl 2 rfl) ?_
          refine x_l5 S hw (by omega) dX0_condition_67 ?_
          refine x_l10 S hw (by have := hs (by omega); omega) dX0_condition_68 ?_
          refine n_if_eq (tgt := 76) S (by have := hT2 (by omega); omega) dX0_condition_69 (by decide) (fun c69 => ?_) (fun c69 => ?_)
          · refine lv_iconst (v := nI 0) S.1 S.2.1 dX0_condition_76 (by decide) ?_
            refine lv_goto (tgt := 103) S.1 S.2.1 dX0_condition_77 (by decide) ?_
            exact hret _ _ dX0_condition_103 (nI_zn _ (by decide)) ⟨congrArg nI (by unfold cdv; rw [if_pos c51]; have z1 := hT1 (by omega); have z2 := hT2 (by omega); exact (bN_f (by omega)).symm), rfl⟩ hw
          · refine lv_iconst (v := nI 1) S.1 S.2.1 dX0_condition_72 (by decide) ?_
            refine lv_goto (tgt := 103) S.1 S.2.1 dX0_condition_73 (by decide) ?_
            exact hret _ _ dX0_condition_103 (nI_zn _ (by decide)) ⟨congrArg nI (by unfold cdv; rw [if_pos c51]; have z1 := hT1 (by omega); have z2 := hT2 (by omega); exact (bN_t (by omega)).symm), rfl⟩ hw
    · refine lv_iload_n S.1 S.2.1 dX0_condition_38 rfl (lv_at hl 0 rfl) ?_
      refine n_if_ne (tgt := 46) S (by have := hT1 (by omega); omega) dX0_condition_39 (by decide) (fun c39 => ?_) (fun c39 => ?_)
      · refine lv_iconst (v := nI 0) S.1 S.2.1 dX0_condition_46 (by decide) ?_
        exact hret _ _ dX0_condition_47 (nI_zn _ (by decide)) ⟨congrArg nI (by unfold cdv; rw [if_neg (by omega), if_neg (by omega), if_pos c35]; have := hT1 (by omega); exact (bN_f (by omega)).symm), rfl⟩ hw
      · refine lv_iconst (v := nI 1) S.1 S.2.1 dX0_condition_42 (by decide) ?_
        refine lv_goto (tgt := 47) S.1 S.2.1 dX0_condition_43 (by decide) ?_
        exact hret _ _ dX0_condition_47 (nI_zn _ (by decide)) ⟨congrArg nI (by unfold cdv; rw [if_neg (by omega), if_neg (by omega), if_pos c35]; have := hT1 (by omega); exact (bN_t (by omega)).symm), rfl⟩ hw
  · have h23 : tk = 23 := c12
    refine lv_aload_n S.1 S.2.1 dX0_condition_15 rfl (lv_at hl 1 rfl) ?_
    refine lv_iload_n S.1 S.2.1 dX0_condition_16 rfl (lv_at hl 2 rfl) ?_
    refine lv_iconst (v := nI 1) S.1 S.2.1 dX0_condition_17 (by decide) ?_
    refine n_iadd S dX0_condition_18 ?_
    refine lv_iconst (v := nI 0) S.1 S.2.1 dX0_condition_19 (by decide) ?_
    refine g_calli (As := [.int (nI (k + 1)), .int (nI 0)]) (rest := []) S hw (b := h 0) rfl rfl (mX_firstBegin l D h d u (k + 1) (nI 0) (by omega) (fun c hc => hE h23 c hc)) (cw_X0_X0_firstBegin S.2.2.2.2 ⟨by decide, by decide⟩) rfl hl.1 rfl (Nat.le_of_ble_eq_true rfl) dX0_condition_20 ⟨Nat.zero_le _, Nat.zero_le _⟩ (fun r1 u1 H locs hp1 hw => ?_)
    obtain ⟨hF, rfl⟩ := hp1
    have hA := fst_any (row := (fun b => u 9 (24 * (k + 1) + b))) hF
    refine lv_if_lt (tgt := 30) S.1 S.2.1 dX0_condition_23 (by decide) (fun c23 => ?_) (fun c23 => ?_)
    · refine lv_iconst (v := nI 0) S.1 S.2.1 dX0_condition_30 (by decide) ?_
      exact hret _ _ dX0_condition_31 (nI_zn _ (by decide)) ⟨congrArg nI (by unfold cdv; rw [if_neg (by omega), if_neg (by omega), if_neg (by omega)]; exact (bN_f (fun q => q (hA.1 c23))).symm), rfl⟩ hw
    · refine lv_iconst (v := nI 1) S.1 S.2.1 dX0_condition_26 (by decide) ?_
      refine lv_goto (tgt := 31) S.1 S.2.1 dX0_condition_27 (by decide) ?_
      exact hret _ _ dX0_condition_31 (nI_zn _ (by decide)) ⟨congrArg nI (by unfold cdv; rw [if_neg (by omega), if_neg (by omega), if_neg (by omega)]; exact (bN_t (hA.2 c23)).symm), rfl⟩ hw
/-- the rows of the tokens from i on are worked out -/
def WI (z x : Nat → Nat) (dd : Nat) (t : Nat → Nat) (n i : Nat) (r9 r10 : Nat → Nat) : Prop := ∀ a, i ≤ a → a < n → (t a ≤ 18 → ∀ b, b < 24 → r9 (24 * a + b) = EV z x dd t n (n - i) a b) ∧ (20 ≤ t a → r10 a = EV z x dd t n (n - i) a 0)
theorem WI_step {z x : Nat → Nat} {dd : Nat} {t : Nat → Nat} {n k : Nat} {r9 r10 r9' r10' : Nat → Nat} (h : WI z x dd t n (k + 1) r9 r10) (hk : k < n) (k9 : ∀ a b, k < a → r9' (24 * a + b) = r9 (24 * a + b)) (k10 : ∀ a, k < a → r10' a = r10 a)
    (n9 : t k ≤ 18 → ∀ b, b < 24 → r9' (24 * k + b) = rwv z x dd t (EV z x dd t n (n - (k + 1))) k (sec t k) b) (n10 : 20 ≤ t k → r10' k = rwv z x dd t (EV z x dd t n (n - (k + 1))) k (sec t k) 0) : WI z x dd t n k r9' r10' := by
  have en : n - k = n - (k + 1) + 1 := by omega
  have ek : n - 1 - (n - (k + 1)) = k := by omega
  intro a ha han
  rw [en]
  by_cases c : a = k
  · subst c
    have e := EV_new z x dd t n (n - (a + 1))
    rw [ek] at e
    rw [e]
    exact ⟨n9, n10⟩
  · rw [EV_old z x dd t n (n - (k + 1)) a (by rw [ek]; exact c), k10 a (by omega)]
    have h2 := h a (by omega) han
    exact ⟨fun q b hb => by rw [k9 a b (by omega)]; exact h2.1 q b hb, h2.2⟩
theorem rwv_c {z x : Nat → Nat} {dd : Nat} {t : Nat → Nat} {E : Nat → Nat → Nat} {k s2 b : Nat} (h : 20 ≤ t k) : rwv z x dd t E k s2 b < 2 := by
  unfold rwv
  rw [if_neg (by omega), if_neg (by omega), if_neg (by omega), if_neg (by omega)]
  split
  · exact bN_2 _
  · split
    · exact bN_2 _
    · split <;> exact bN_2 _
theorem EV_c {z x : Nat → Nat} {dd : Nat} {t : Nat → Nat} {n : Nat} {a b : Nat} (h : 20 ≤ t a) : ∀ j, EV z x dd t n j a b < 2
  | 0 => by show 0 < 2; decide
  | j + 1 => by
    by_cases q : a = n - 1 - j
    · subst q; rw [EV_new]; exact rwv_c h
    · rw [EV_old _ _ _ _ _ _ _ q]; exact EV_c h j
theorem po_word {z x o : Nat → Nat} (h : poF z x o) {dd w b : Nat} (hd : dd < 6) (hw : w < 12) : o (12 * dd + w) &&& (1 <<< b) = if b < z dd ∧ x (24 * dd + b) = w then 1 <<< b else 0 := by
  refine Nat.eq_of_testBit_eq fun i => ?_
  rw [Nat.testBit_and, h dd w hd hw, sh1_bit]
  by_cases c : b < z dd ∧ x (24 * dd + b) = w
  · rw [if_pos c, sh1_bit]
    by_cases e : b = i
    · subst e; rw [decide_eq_true c]; rfl
    · rw [decide_eq_false e, Bool.and_false]
  · rw [if_neg c, Nat.zero_testBit]
    by_cases e : b = i
    · subst e; rw [decide_eq_false c]; rfl
    · rw [decide_eq_false e, Bool.and_false]
theorem rwv_w {z x : Nat → Nat} {dd : Nat} {t : Nat → Nat} {E : Nat → Nat → Nat} {k s2 b : Nat} (h : t k < 12) : rwv z x dd t E k s2 b = if b < z dd ∧ x (24 * dd + b) = t k then 1 <<< b else 0 := by
  unfold rwv; rw [if_pos h]
theorem rwv_b {z x : Nat → Nat} {dd : Nat} {t : Nat → Nat} {E : Nat → Nat → Nat} {k s2 b : Nat} {r1 r2 : Nat → Nat} (h : 12 ≤ t k) (h2 : t k ≤ 18) (hb : b < 24) (e1 : ∀ c, c < 24 → r1 c = E (k + 1) c) (e2 : ∀ c, c < 24 → r2 c = E s2 c) : cbv (t k) r1 r2 b = rwv z x dd t E k s2 b := by
  unfold rwv cbv
  rw [if_neg (show ¬ t k < 12 by omega), e1 b hb, e2 b hb, mxf_congr e2 (b + 1) (by omega)]
  by_cases c : t k = 12
  · rw [if_pos c, if_pos c]
  · rw [if_neg c, if_neg c]
    by_cases c2 : t k = 18
    · rw [if_pos c2, if_pos c2]
    · rw [if_neg c2, if_neg c2, if_pos (by omega)]
      exact thf_congr e2 _ (by omega)
theorem rwv_d {z x : Nat → Nat} {dd : Nat} {t : Nat → Nat} {E : Nat → Nat → Nat} {k s2 a1 a2 : Nat} {row : Nat → Nat} (h : 20 ≤ t k) (h2 : t k ≤ 23) (e1 : t k ≤ 22 → a1 = E (k + 1) 0) (e2 : t k ≤ 21 → a2 = E s2 0) (e3 : t k = 23 → ∀ c, c < 24 → row c = E (k + 1) c) : cdv (t k) a1 a2 row = rwv z x dd t E k s2 0 := by
  unfold rwv cdv
  rw [if_neg (show ¬ t k < 12 by omega), if_neg (show ¬ t k = 12 by omega), if_neg (show ¬ t k = 18 by omega), if_neg (show ¬ t k < 18 by omega)]
  by_cases c : t k = 20
  · rw [if_pos c, if_pos c, e1 (by omega), e2 (by omega)]
  · rw [if_neg c, if_neg c]
    by_cases c2 : t k = 21
    · rw [if_pos c2, if_pos c2, e1 (by omega), e2 (by omega)]
    · rw [if_neg c2, if_neg c2]
      by_cases c3 : t k = 22
      · rw [if_pos c3, if_pos c3, e1 (by omega)]
      · rw [if_neg c3, if_neg c3, anf_congr (e3 (by omega)) 24 (by omega)]
theorem ar_2 {t : Nat} (h : 12 ≤ t) (h2 : t ≤ 21) : ar t = 2 := by unfold ar; rw [if_neg (by omega), if_neg (by omega)]
theorem ar_1 {t : Nat} (h : 12 ≤ t) : 0 < ar t := by unfold ar; rw [if_neg (by omega)]; split <;> omega
theorem kd_2 {t : Nat} (h : t ≤ 18 ∨ t = 23) : kd t = 2 := by unfold kd; rw [if_neg (by omega)]
theorem kd_1 {t : Nat} (h : 20 ≤ t) (h2 : t ≤ 22) : kd t = 1 := by unfold kd; rw [if_pos ⟨h, h2⟩]
set_option maxHeartbeats 4000000 in
theorem mX_work (l : Launch) (D : va_G) (h : Nat → Nat) (d : Nat → ClassId) (u : gU) (dd : Nat) (hdd : dd < 6) (hI : xI u) : gMi l yX0_work cX0_work 4 .boolean (rk 3) D (xL h d) (xT d) [.ref (h 0), .int (nI dd)] u (fun r u' => r = nI (bN (nd (u 3) (u 4 0) = 0)) ∧ kp u u' ∧ (nd (u 3) (u 4 0) = 0 → WI (u 0) (u 1) dd (u 3) (u 4 0) 0 (u' 9) (u' 10))) := by
  refine gMi_of (by decide) (Nat.le_of_ble_eq_true rfl) ?_
  intro p e s m args below meth c A Q ls S hw hl hret
  have S : CallFix p m c cX0_work 4 s args lw_all RX0 := S
  have hl : lv_has ls 4 [(0, .ref (h 0)), (1, .int (nI dd))] := hl
  have hq := hI.2.2.2
  have hq1 := hq.1
  refine lv_aload_n S.1 S.2.1 dX0_work_0 rfl (lv_at hl 0 rfl) ?_
  refine g_calli (As := []) (rest := []) S hw (b := h 0) rfl rfl (mX_complete l D h d u hq) (cw_X0_X0_complete S.2.2.2.2 ⟨by decide, by decide⟩) rfl hl.1 rfl (Nat.le_of_ble_eq_true rfl) dX0_work_1 ⟨Nat.zero_le _, Nat.zero_le _⟩ (fun r1 u1 H locs hp1 hw => ?_)
  obtain ⟨rfl, hf, hsec⟩ := hp1
  have h4 : u1 4 0 = u 4 0 := by rw [hf 4 (by decide)]
  refine n_if_ne (tgt := 9) S (by exact bN_lt _) dX0_work_4 (by decide) (fun c4 => ?_) (fun c4 => ?_)
  · have hnd := bN_1 c4
    have hsec := hsec hnd
    refine lv_aload_n S.1 S.2.1 dX0_work_9 rfl (lv_at hl 0 rfl) ?_
    refine x_g4 S hw dX0_work_10 ?_
    refine lv_iconst (v := nI 1) S.1 S.2.1 dX0_work_13 (by decide) ?_
    refine n_dec S dX0_work_14 ?_
    refine lv_istore_n (lv' := [(2, .int (pI (u1 4 0))), (0, .ref (h 0)), (1, .int (nI dd))]) S.1 S.2.1 dX0_work_15 rfl hl (by decide) rfl (fun ls hl => ?_)
    rw [h4] at hl
    have lp : ∀ (n : Nat) (i : Nat) (uu : gU), (i ≤ u 4 0) → (i + 1 ≤ n) → (∀ a, a < 5 → uu a = u a) → (uu 5 = u1 5) → (WI (u 0) (u 1) dd (u 3) (u 4 0) i (uu 9) (uu 10)) → ∀ (H : Heap) (locs : List Loc) (ls : Array Slot), xW D h d A s H locs uu → lv_has ls 4 [(2, .int (pI i)), (0, .ref (h 0)), (1, .int (nI dd))] → W p l e (rk 3) s m args below meth c H locs 0 0 Q (F0 m 16 ls []) := by
      intro n
      induction n with
      | zero =>
        intro i uu hi hn hfr h5 hW
        exfalso; omega
      | succ n ih =>
        intro i uu hi hn hfr h5 hW H locs ls hw hl
        refine lv_iload_n S.1 S.2.1 dX0_work_16 rfl (lv_at hl 0 rfl) ?_
        refine p_if_lt (tgt := 86) S (by omega) dX0_work_17 (by decide) (fun c17 => ?_) (fun c17 => ?_)
        · refine lv_iconst (v := nI 1) S.1 S.2.1 dX0_work_86 (by decide) ?_
          refine hret _ _ dX0_work_87 (nI_zn _ (by decide)) ⟨congrArg nI (bN_t hnd).symm, hfr, fun _ => ?_⟩ hw
          rw [c17] at hW
          exact hW
        · obtain ⟨k, rfl⟩ : ∃ k, i = k + 1 := ⟨i - 1, by omega⟩
          rw [pI_s] at hl
          have h3 : uu 3 = u 3 := hfr 3 (by decide)
          have h2 : uu 2 = u 2 := hfr 2 (by decide)
          have h3k : uu 3 k = u 3 k := by rw [h3]
          have ht24 := hq.2.1 k
          have hty := hq.2.2 k (by omega)
          have hz := hI.1 dd
          have kidA : 12 ≤ u 3 k → k + 1 < u 4 0 ∧ ((kd (u 3 k) = 1 ∧ 20 ≤ u 3 (k + 1)) ∨ (kd (u 3 k) = 2 ∧ u 3 (k + 1) ≤ 18)) := fun q => ⟨kid_lt hq hnd (by omega) (ar_1 q), kid1 hq (kid_lt hq hnd (by omega) (ar_1 q)) (ar_1 q)⟩
          have kidB : 12 ≤ u 3 k → u 3 k ≤ 21 → k + 1 < uu 5 k ∧ uu 5 k < u 4 0 ∧ sec (u 3) k = uu 5 k ∧ ((kd (u 3 k) = 1 ∧ 20 ≤ u 3 (uu 5 k)) ∨ (kd (u 3 k) = 2 ∧ u 3 (uu 5 k) ≤ 18)) := fun q q2 => by
            have z1 := hsec k (by omega) (ar_2 q q2)
            rw [h5]
            exact ⟨z1.1.1, z1.2, sec_eq z1.1, kid2 hq z1.1 z1.2 (ar_2 q q2)⟩
          have rA : 12 ≤ u 3 k → u 3 (k + 1) ≤ 18 → ∀ b, b < 24 → uu 9 (24 * (k + 1) + b) = EV (u 0) (u 1) dd (u 3) (u 4 0) (u 4 0 - (k + 1)) (k + 1) b := fun q q1 b hb => (hW (k + 1) (Nat.le_refl _) (kidA q).1).1 q1 b hb
          have tA : 12 ≤ u 3 k → 20 ≤ u 3 (k + 1) → uu 10 (k + 1) = EV (u 0) (u 1) dd (u 3) (u 4 0) (u 4 0 - (k + 1)) (k + 1) 0 := fun q q1 => (hW (k + 1) (Nat.le_refl _) (kidA q).1).2 q1
          have rB : 12 ≤ u 3 k → u 3 k ≤ 21 → u 3 (uu 5 k) ≤ 18 → ∀ b, b < 24 → uu 9 (24 * uu 5 k + b) = EV (u 0) (u 1) dd (u 3) (u 4 0) (u 4 0 - (k + 1)) (uu 5 k) b := fun q q2 q1 b hb => (hW (uu 5 k) (by have := kidB q q2; omega) (kidB q q2).2.1).1 q1 b hb
          have tB : 12 ≤ u 3 k → u 3 k ≤ 21 → 20 ≤ u 3 (uu 5 k) → uu 10 (uu 5 k) = EV (u 0) (u 1) dd (u 3) (u 4 0) (u 4 0 - (k + 1)) (uu 5 k) 0 := fun q q2 q1 => (hW (uu 5 k) (by have := kidB q q2; omega) (kidB q q2).2.1).2 q1
          refine lv_aload_n S.1 S.2.1 dX0_work_20 rfl (lv_at hl 1 rfl) ?_
          refine x_g3 S hw dX0_work_21 ?_
          refine lv_iload_n S.1 S.2.1 dX0_work_24 rfl (lv_at hl 0 rfl) ?_
          refine x_l3 S hw (by omega) dX0_work_25 ?_
          refine lv_istore_n (lv' := [(3, .int (nI (uu 3 k))), (2, .int (nI k)), (0, .ref (h 0)), (1, .int (nI dd))]) S.1 S.2.1 dX0_work_26 rfl hl (by decide) rfl (fun ls hl => ?_)
          refine lv_iload_n S.1 S.2.1 dX0_work_27 rfl (lv_at hl 0 rfl) ?_
          refine lv_bipush (v := nI 12) S.1 S.2.1 dX0_work_28 (by decide) ?_
          refine n_icmp_ge (tgt := 52) S (by omega) (by omega) dX0_work_30 (by decide) (fun c30 => ?_) (fun c30 => ?_)
          · refine lv_iload_n S.1 S.2.1 dX0_work_52 rfl (lv_at hl 0 rfl) ?_
            refine g_calls (As := [.int (nI (uu 3 k))]) (rest := []) S hw (mX_isSpan l D h d uu (nI (uu 3 k))) (cw_X0_X0_isSpan S.2.2.2.2 ⟨by decide, by decide⟩) rfl hl.1 rfl (Nat.le_of_ble_eq_true rfl) dX0_work_53 ⟨Nat.zero_le _, Nat.zero_le _⟩ (fun r2 u2 H locs hp2 hw => ?_)
            obtain ⟨rfl, rfl⟩ := hp2
            refine n_if_eq (tgt := 68) S (by exact bN_lt _) dX0_work_56 (by decide) (fun c56 => ?_) (fun c56 => ?_)
            · have hsp := bN_0 c56
              rw [ix_in (by omega) (by omega)] at hsp
              have kA := kidA (by omega)
              refine lv_aload_n S.1 S.2.1 dX0_work_68 rfl (lv_at hl 2 rfl) ?_
              refine x_g10 S hw dX0_work_69 ?_
              refine lv_iload_n S.1 S.2.1 dX0_work_72 rfl (lv_at hl 1 rfl) ?_
              refine lv_aload_n S.1 S.2.1 dX0_work_73 rfl (lv_at hl 2 rfl) ?_
              refine lv_iload_n S.1 S.2.1 dX0_work_74 rfl (lv_at hl 1 rfl) ?_
              refine lv_iload_n S.1 S.2.1 dX0_work_75 rfl (lv_at hl 0 rfl) ?_
              have q20 : 20 ≤ u 3 k := by omega
              have hn1 : u 3 k ≤ 22 → 20 ≤ u 3 (k + 1) := fun q => by have z1 := kA.2; rw [kd_1 q20 q] at z1; omega
              have hn2 : u 3 k ≤ 21 → 20 ≤ u 3 (uu 5 k) := fun q => by have z1 := (kidB (by omega) q).2.2.2; rw [kd_1 q20 (by omega)] at z1; omega
              have hn3 : u 3 k = 23 → u 3 (k + 1) ≤ 18 := fun q => by have z1 := kA.2; rw [kd_2 (Or.inr q)] at z1; omega
              refine g_calli (As := [.int (nI k), .int (nI (uu 3 k))]) (rest := [.int (nI k), .ref (h 11)]) S hw (b := h 0) rfl rfl (mX_condition l D h d uu k (uu 3 k) (by omega) (by omega) (by omega) (fun q => by have := kidB (by omega) (by omega); omega) (fun q => by rw [tA (by omega) (hn1 (by omega))]; exact EV_c (hn1 (by omega)) _) (fun q => by rw [tB (by omega) (by omega) (hn2 (by omega))]; exact EV_c (hn2 (by omega)) _) (fun q b hb => by rw [rA (by omega) (hn3 (by omega)) b hb]; exact EV_lt hz _ _ _)) (cw_X0_X0_condition S.2.2.2.2 ⟨by decide, by decide⟩) rfl hl.1 rfl (Nat.le_of_ble_eq_true rfl) dX0_work_76 ⟨Nat.zero_le _, Nat.zero_le _⟩ (fun r3 u3 H locs hp3 hw => ?_)
              obtain ⟨rfl, rfl⟩ := hp3
              have hcv : cdv (uu 3 k) (uu 10 (k + 1)) (uu 10 (uu 5 k)) (fun b => uu 9 (24 * (k + 1) + b)) = rwv (u 0) (u 1) dd (u 3) (EV (u 0) (u 1) dd (u 3) (u 4 0) (u 4 0 - (k + 1))) k (sec (u 3) k) 0 := by
                rw [h3k]
                exact rwv_d q20 (by omega) (fun q => tA (by omega) (hn1 q)) (fun q => by rw [(kidB (by omega) q).2.2.1]; exact tB (by omega) q (hn2 q)) (fun q => rA (by omega) (hn3 q))
              refine x_s10 S hw (by omega) (by rw [hcv]; exact rwv_c q20) dX0_work_79 (fun u4 eu4 H locs hw => ?_)
              have hWn : WI (u 0) (u 1) dd (u 3) (u 4 0) k (u4 9) (u4 10) := by
                refine WI_step hW (by omega) (fun a b _ => by rw [eu4, gup_n _ _ _ (by decide)]) (fun a ha => by rw [eu4, gup_s, va_up_ne _ _ (by omega)]) (fun q => by omega) (fun _ => ?_)
                rw [eu4, gup_s, va_up_self, hcv]
              have hfn : ∀ a, a < 5 → u4 a = u a := fun a ha => by rw [eu4, gup_n _ _ _ (by omega)]; exact hfr a ha
              have h5n : u4 5 = u1 5 := by rw [eu4, gup_n _ _ _ (by decide)]; exact h5
              refine p_iinc (k := 1) (lv' := [(2, .int (pI k)), (3, .int (nI (uu 3 k))), (0, .ref (h 0)), (1, .int (nI dd))]) S dX0_work_80 hl rfl (by decide) rfl (fun ls hl => ?_)
              refine lv_goto (tgt := 16) S.1 S.2.1 dX0_work_83 (by decide) ?_
              exact ih k u4 (by omega) (by omega) hfn h5n hWn _ _ _ hw (lv_sub hl [0, 2, 3] rfl)
            · have hsp := bN_1 c56
              rw [ix_in (by omega) (by omega)] at hsp
              have kA := kidA (by omega)
              have kB := kidB (by omega) (by omega)
              rw [kd_2 (Or.inl (by omega))] at kA kB
              refine lv_aload_n S.1 S.2.1 dX0_work_59 rfl (lv_at hl 2 rfl) ?_
              refine lv_iload_n S.1 S.2.1 dX0_work_60 rfl (lv_at hl 1 rfl) ?_
              refine lv_iload_n S.1 S.2.1 dX0_work_61 rfl (lv_at hl 0 rfl) ?_
              refine g_callv (As := [.int (nI k), .int (nI (uu 3 k))]) (rest := []) S hw (b := h 0) rfl rfl (mX_combine l D h d uu k (uu 3 k) (by omega) (by omega) (by omega) (by omega) (by omega) (fun b hb => by rw [rA (by omega) (by omega) b hb]; exact EV_lt hz _ _ _) (fun b hb => by rw [rB (by omega) (by omega) (by omega) b hb]; exact EV_lt hz _ _ _)) (cw_X0_X0_combine S.2.2.2.2 ⟨by decide, by decide⟩) rfl hl.1 rfl (Nat.le_of_ble_eq_true rfl) dX0_work_62 ⟨Nat.zero_le _, Nat.zero_le _⟩ (fun u5 H locs hp5 hw => ?_)
              have hWn : WI (u 0) (u 1) dd (u 3) (u 4 0) k (u5 9) (u5 10) := by
                refine WI_step hW (by omega) (fun a b ha => RS_out hp5 (by omega)) (fun a _ => by rw [hp5.1 10 (by decide)]) (fun _ b hb => ?_) (fun q => by omega)
                rw [RS_in hp5 hb, h3k, kB.2.2.1]
                exact rwv_b (by omega) (by omega) hb (rA (by omega) (by omega)) (rB (by omega) (by omega) (by omega))
              have hfn : ∀ a, a < 5 → u5 a = u a := fun a ha => by rw [hp5.1 a (by omega)]; exact hfr a ha
              have h5n : u5 5 = u1 5 := by rw [hp5.1 5 (by decide)]; exact h5
              refine lv_goto (tgt := 80) S.1 S.2.1 dX0_work_65 (by decide) ?_
              refine p_iinc (k := 1) (lv' := [(2, .int (pI k)), (3, .int (nI (uu 3 k))), (0, .ref (h 0)), (1, .int (nI dd))]) S dX0_work_80 hl rfl (by decide) rfl (fun ls hl => ?_)
              refine lv_goto (tgt := 16) S.1 S.2.1 dX0_work_83 (by decide) ?_
              exact ih k u5 (by omega) (by omega) hfn h5n hWn _ _ _ hw (lv_sub hl [0, 2, 3] rfl)
          · refine lv_aload_n S.1 S.2.1 dX0_work_33 rfl (lv_at hl 2 rfl) ?_
            refine lv_iload_n S.1 S.2.1 dX0_work_34 rfl (lv_at hl 1 rfl) ?_
            refine lv_aload_n S.1 S.2.1 dX0_work_35 rfl (lv_at hl 2 rfl) ?_
            refine x_g2 S hw dX0_work_36 ?_
            refine lv_iload_n S.1 S.2.1 dX0_work_39 rfl (lv_at hl 3 rfl) ?_
            refine lv_bipush (v := nI 12) S.1 S.2.1 dX0_work_40 (by decide) ?_
            refine n_imulc S dX0_work_42 ?_
            refine lv_iload_n S.1 S.2.1 dX0_work_43 rfl (lv_at hl 0 rfl) ?_
            refine n_iadd S dX0_work_44 ?_
            refine x_l2 S hw (by omega) dX0_work_45 ?_
            refine g_callv (As := [.int (nI k), .int (nI (uu 2 ((12 * dd) + (uu 3 k))))]) (rest := []) S hw (b := h 0) rfl rfl (mX_word l D h d uu k (uu 2 ((12 * dd) + (uu 3 k))) (by omega)) (cw_X0_X0_word S.2.2.2.2 ⟨by decide, by decide⟩) rfl hl.1 rfl (Nat.le_of_ble_eq_true rfl) dX0_work_46 ⟨Nat.zero_le _, Nat.zero_le _⟩ (fun u6 H locs hp6 hw => ?_)
            have hWn : WI (u 0) (u 1) dd (u 3) (u 4 0) k (u6 9) (u6 10) := by
              refine WI_step hW (by omega) (fun a b ha => RS_out hp6 (by omega)) (fun a _ => by rw [hp6.1 10 (by decide)]) (fun _ b hb => ?_) (fun q => by omega)
              rw [RS_in hp6 hb, h2, h3k, po_word hI.2.2.1 hdd (by omega), rwv_w (by omega)]
            have hfn : ∀ a, a < 5 → u6 a = u a := fun a ha => by rw [hp6.1 a (by omega)]; exact hfr a ha
            have h5n : u6 5 = u1 5 := by rw [hp6.1 5 (by decide)]; exact h5
            refine lv_goto (tgt := 80) S.1 S.2.1 dX0_work_49 (by decide) ?_
            refine p_iinc (k := 1) (lv' := [(2, .int (pI k)), (3, .int (nI (uu 3 k))), (0, .ref (h 0)), (1, .int (nI dd))]) S dX0_work_80 hl rfl (by decide) rfl (fun ls hl => ?_)
            refine lv_goto (tgt := 16) S.1 S.2.1 dX0_work_83 (by decide) ?_
            exact ih k u6 (by omega) (by omega) hfn h5n hWn _ _ _ hw (lv_sub hl [0, 2, 3] rfl)
    exact lp (u 4 0 + 1) (u 4 0) u1 (by omega) (by omega) (fun a ha => hf a (Or.inl ha)) rfl (fun a h1 h2 => absurd h2 (by omega)) _ _ _ hw (lv_sub hl [0, 1, 2] rfl)
  · refine lv_iconst (v := nI 0) S.1 S.2.1 dX0_work_7 (by decide) ?_
    exact hret _ _ dX0_work_8 (nI_zn _ (by decide)) ⟨congrArg nI (bN_f (bN_0 c4)).symm, fun a ha => hf a (Or.inl ha), fun q => absurd q (bN_0 c4)⟩ hw
end
section
/-! the answers of PhraseIndex, printed by gen/xans.py -/
set_option maxRecDepth 100000
/-- what holds and matching answer -/
noncomputable def hoF (z x t : Nat → Nat) (n : Nat) (a : Int32) : Nat := if ix 6 a < 6 ∧ nd t n = 0 then EV z x (ix 6 a) t n n 0 0 else 0
noncomputable def mtf (z x t : Nat → Nat) (n : Nat) : Nat → Nat
  | 0 => 0
  | dd + 1 => if hoF z x t n (nI dd) = 0 then mtf z x t n dd else mtf z x t n dd ||| (1 <<< dd)
theorem q_root {t : Nat → Nat} {n : Nat} (h : qI t n) (hn : nd t n = 0) : 0 < n ∧ 20 ≤ t 0 := by
  have h0 : 0 < n := by
    refine Nat.pos_of_ne_zero fun q => ?_
    rw [q] at hn
    exact absurd hn (by show ¬ 1 = 0; decide)
  refine ⟨h0, ?_⟩
  have h1 := (h.2.2 0 h0).2
  rw [show pl t 0 (nd t 0 - 1) = 1 from rfl] at h1
  omega
theorem hoF_2 {z x t : Nat → Nat} {n : Nat} (h : qI t n) (a : Int32) : hoF z x t n a < 2 := by
  unfold hoF
  by_cases c : ix 6 a < 6 ∧ nd t n = 0
  · rw [if_pos c]; exact EV_c (q_root h c.2).2 _
  · rw [if_neg c]; decide
/-- token i is the g-th HAS -/
def SP (t : Nat → Nat) (g : Int32) (i : Nat) : Prop := t i = 23 ∧ nI (htf t i) = g
def SY (t : Nat → Nat) (n : Nat) (g a : Int32) (i : Nat) : Prop := ix 6 a < 6 ∧ nd t n = 0 ∧ i < n ∧ SP t g i ∧ ∀ i', i' < i → ¬ SP t g i'
def SN (t : Nat → Nat) (n : Nat) (g a : Int32) : Prop := ¬ (ix 6 a < 6 ∧ nd t n = 0) ∨ ∀ i, i < n → ¬ SP t g i
theorem SY_SN {t : Nat → Nat} {n : Nat} {g a : Int32} {i : Nat} (h : SY t n g a i) (h' : SN t n g a) : False := by
  rcases h' with q | q
  · exact q ⟨h.1, h.2.1⟩
  · exact q i h.2.2.1 h.2.2.2.1
theorem SY_eq {t : Nat → Nat} {n : Nat} {g a : Int32} {i j : Nat} (h : SY t n g a i) (h' : SY t n g a j) : i = j := by
  rcases Nat.lt_trichotomy i j with q | q | q
  · exact absurd h.2.2.2.1 (h'.2.2.2.2 i q)
  · exact q
  · exact absurd h'.2.2.2.1 (h.2.2.2.2 j q)
/-- the part of a HAS stands behind it, a span -/
theorem has_kid {t : Nat → Nat} {n i : Nat} (h : qI t n) (hn : nd t n = 0) (hi : i < n) (h23 : t i = 23) : i + 1 < n ∧ t (i + 1) ≤ 18 := by
  have h1 : 0 < ar (t i) := ar_1 (by omega)
  have h2 := kid_lt h hn hi h1
  have h3 := kid1 h h2 h1
  rw [kd_2 (Or.inr h23)] at h3
  exact ⟨h2, by omega⟩
set_option maxHeartbeats 4000000 in
theorem mX_holds (l : Launch) (D : va_G) (h : Nat → Nat) (d : Nat → ClassId) (u : gU) (a : Int32) (hI : xI u) : gMi l yX0_holds cX0_holds 2 .boolean (rk 4) D (xL h d) (xT d) [.ref (h 0), .int a] u (fun r u' => r = nI (hoF (u 0) (u 1) (u 3) (u 4 0) a) ∧ kp u u') := by
  refine gMi_of (by decide) (Nat.le_of_ble_eq_true rfl) ?_
  intro p e s m args below meth c A Q ls S hw hl hret
  have S : CallFix p m c cX0_holds 2 s args lw_all RX0 := S
  have hl : lv_has ls 2 [(0, .ref (h 0)), (1, .int a)] := hl
  have hq := hI.2.2.2
  refine lv_iload_n S.1 S.2.1 dX0_holds_0 rfl (lv_at hl 1 rfl) ?_
  refine g_calls (As := [.int a]) (rest := []) S hw (mX_isDocument l D h d u a) (cw_X0_X0_isDocument S.2.2.2.2 ⟨by decide, by decide⟩) rfl hl.1 rfl (Nat.le_of_ble_eq_true rfl) dX0_holds_1 ⟨Nat.zero_le _, Nat.zero_le _⟩ (fun r1 u1 H locs hp1 hw => ?_)
  obtain ⟨rfl, rfl⟩ := hp1
  refine n_if_eq (tgt := 28) S (by exact bN_lt _) dX0_holds_4 (by decide) (fun c4 => ?_) (fun c4 => ?_)
  · refine lv_iconst (v := nI 0) S.1 S.2.1 dX0_holds_28 (by decide) ?_
    exact hret _ _ dX0_holds_29 (nI_zn _ (by decide)) ⟨congrArg nI (by unfold hoF; rw [if_neg (fun q => bN_0 c4 q.1)]), kp_rf u⟩ hw
  · obtain ⟨j, hj, rfl, hj'⟩ := ix_lt (bN_1 c4)
    refine lv_aload_n S.1 S.2.1 dX0_holds_7 rfl (lv_at hl 0 rfl) ?_
    refine lv_iload_n S.1 S.2.1 dX0_holds_8 rfl (lv_at hl 1 rfl) ?_
    refine g_calli (As := [.int (nI j)]) (rest := []) S hw (b := h 0) rfl rfl (mX_work l D h d u j hj hI) (cw_X0_X0_work S.2.2.2.2 ⟨by decide, by decide⟩) rfl hl.1 rfl (Nat.le_of_ble_eq_true rfl) dX0_holds_9 ⟨Nat.zero_le _, Nat.zero_le _⟩ (fun r2 u2 H locs hp2 hw => ?_)
    obtain ⟨rfl, hkp, hW⟩ := hp2
    refine n_if_eq (tgt := 28) S (by exact bN_lt _) dX0_holds_12 (by decide) (fun c12 => ?_) (fun c12 => ?_)
    · refine lv_iconst (v := nI 0) S.1 S.2.1 dX0_holds_28 (by decide) ?_
      exact hret _ _ dX0_holds_29 (nI_zn _ (by decide)) ⟨congrArg nI (by unfold hoF; rw [if_neg (fun q => bN_0 c12 q.2)]), hkp⟩ hw
    · have hnd := bN_1 c12
      have hrt := q_root hq hnd
      have hv := (hW hnd 0 (Nat.le_refl _) hrt.1).2 hrt.2
      rw [Nat.sub_zero] at hv
      have hv2 : EV (u 0) (u 1) j (u 3) (u 4 0) (u 4 0) 0 0 < 2 := EV_c hrt.2 _
      have hho : hoF (u 0) (u 1) (u 3) (u 4 0) (nI j) = EV (u 0) (u 1) j (u 3) (u 4 0) (u 4 0) 0 0 := by unfold hoF; rw [ix_in hj' hj, if_pos ⟨hj, hnd⟩]
      refine lv_aload_n S.1 S.2.1 dX0_holds_15 rfl (lv_at hl 0 rfl) ?_
      refine x_g10 S hw dX0_holds_16 ?_
      refine lv_iconst (v := nI 0) S.1 S.2.1 dX0_holds_19 (by decide) ?_
      refine x_l10 S hw (by omega) dX0_holds_20 ?_
      refine n_if_eq (tgt := 28) S (by omega) dX0_holds_21 (by decide) (fun c21 => ?_) (fun c21 => ?_)
      · refine lv_iconst (v := nI 0) S.1 S.2.1 dX0_holds_28 (by decide) ?_
        exact hret _ _ dX0_holds_29 (nI_zn _ (by decide)) ⟨congrArg nI (by omega), hkp⟩ hw
      · refine lv_iconst (v := nI 1) S.1 S.2.1 dX0_holds_24 (by decide) ?_
        refine lv_goto (tgt := 29) S.1 S.2.1 dX0_holds_25 (by decide) ?_
        exact hret _ _ dX0_holds_29 (nI_zn _ (by decide)) ⟨congrArg nI (by omega), hkp⟩ hw
set_option maxHeartbeats 4000000 in
theorem mX_matching (l : Launch) (D : va_G) (h : Nat → Nat) (d : Nat → ClassId) (u : gU) (hI : xI u) : gMi l yX0_matching cX0_matching 3 .int (rk 5) D (xL h d) (xT d) [.ref (h 0)] u (fun r u' => r = nI (mtf (u 0) (u 1) (u 3) (u 4 0) 6) ∧ kp u u') := by
  refine gMi_of (by decide) (Nat.le_of_ble_eq_true rfl) ?_
  intro p e s m args below meth c A Q ls S hw hl hret
  have S : CallFix p m c cX0_matching 3 s args lw_all RX0 := S
  have hl : lv_has ls 3 [(0, .ref (h 0))] := hl
  have lp : ∀ (n : Nat) (i v : Nat) (uu : gU), (i ≤ 6) → (7 ≤ i + n) → (kp u uu) → (v = mtf (u 0) (u 1) (u 3) (u 4 0) i) → ∀ (H : Heap) (locs : List Loc) (ls : Array Slot), xW D h d A s H locs uu → lv_has ls 3 [(2, .int (nI i)), (1, .int (nI v)), (0, .ref (h 0))] → W p l e (rk 5) s m args below meth c H locs 0 0 Q (F0 m 4 ls []) := by
    intro n
    induction n with
    | zero =>
      intro i v uu hi hn hk hv
      exfalso; omega
    | succ n ih =>
      intro i v uu hi hn hk hv H locs ls hw hl
      refine lv_iload_n S.1 S.2.1 dX0_matching_4 rfl (lv_at hl 0 rfl) ?_
      refine lv_bipush (v := nI 6) S.1 S.2.1 dX0_matching_5 (by decide) ?_
      refine n_icmp_ge (tgt := 34) S (by omega) (by omega) dX0_matching_7 (by decide) (fun c7 => ?_) (fun c7 => ?_)
      · refine lv_iload_n S.1 S.2.1 dX0_matching_34 rfl (lv_at hl 1 rfl) ?_
        exact hret _ _ dX0_matching_35 rfl (⟨by rw [hv, show i = 6 by omega], hk⟩) hw
      · refine lv_iload_n S.1 S.2.1 dX0_matching_10 rfl (lv_at hl 1 rfl) ?_
        refine lv_aload_n S.1 S.2.1 dX0_matching_11 rfl (lv_at hl 2 rfl) ?_
        refine lv_iload_n S.1 S.2.1 dX0_matching_12 rfl (lv_at hl 0 rfl) ?_
        refine g_calli (As := [.int (nI i)]) (rest := [.int (nI v)]) S hw (b := h 0) rfl rfl (mX_holds l D h d uu (nI i) (xI_kp hI hk)) (cw_X0_X0_holds S.2.2.2.2 ⟨by decide, by decide⟩) rfl hl.1 rfl (Nat.le_of_ble_eq_true rfl) dX0_matching_13 ⟨Nat.zero_le _, Nat.zero_le _⟩ (fun r1 u1 H locs hp1 hw => ?_)
        obtain ⟨rfl, hk2⟩ := hp1
        have e5 : hoF (uu 0) (uu 1) (uu 3) (uu 4 0) (nI i) = hoF (u 0) (u 1) (u 3) (u 4 0) (nI i) := by rw [hk 0 (by decide), hk 1 (by decide), hk 3 (by decide), hk 4 (by decide)]
        rw [e5]
        have h2 := hoF_2 (z := u 0) (x := u 1) hI.2.2.2 (nI i)
        refine n_if_eq (tgt := 25) S (by omega) dX0_matching_16 (by decide) (fun c16 => ?_) (fun c16 => ?_)
        · refine lv_iconst (v := nI 0) S.1 S.2.1 dX0_matching_25 (by decide) ?_
          refine n_ior S dX0_matching_26 ?_
          refine lv_istore_n (lv' := [(1, .int (nI (v ||| 0))), (2, .int (nI i)), (0, .ref (h 0))]) S.1 S.2.1 dX0_matching_27 rfl hl (by decide) rfl (fun ls hl => ?_)
          refine n_iinc (k := 1) (lv' := [(2, .int (nI (i + 1))), (1, .int (nI (v ||| 0))), (0, .ref (h 0))]) S dX0_matching_28 hl rfl (by decide) rfl (fun ls hl => ?_)
          refine lv_goto (tgt := 4) S.1 S.2.1 dX0_matching_31 (by decide) ?_
          exact ih (i + 1) (v ||| 0) u1 (by omega) (by omega) (kp_tr hk hk2) (by rw [hv, mtf, if_pos c16, Nat.or_zero]) _ _ _ hw (lv_sub hl [0, 1, 2] rfl)
        · refine lv_iconst (v := nI 1) S.1 S.2.1 dX0_matching_19 (by decide) ?_
          refine lv_iload_n S.1 S.2.1 dX0_matching_20 rfl (lv_at hl 0 rfl) ?_
          refine n_ishl S (by omega) dX0_matching_21 ?_
          refine lv_goto (tgt := 26) S.1 S.2.1 dX0_matching_22 (by decide) ?_
          refine n_ior S dX0_matching_26 ?_
          refine lv_istore_n (lv' := [(1, .int (nI (v ||| (1 <<< i)))), (2, .int (nI i)), (0, .ref (h 0))]) S.1 S.2.1 dX0_matching_27 rfl hl (by decide) rfl (fun ls hl => ?_)
          refine n_iinc (k := 1) (lv' := [(2, .int (nI (i + 1))), (1, .int (nI (v ||| (1 <<< i)))), (0, .ref (h 0))]) S dX0_matching_28 hl rfl (by decide) rfl (fun ls hl => ?_)
          refine lv_goto (tgt := 4) S.1 S.2.1 dX0_matching_31 (by decide) ?_
          exact ih (i + 1) (v ||| (1 <<< i)) u1 (by omega) (by omega) (kp_tr hk hk2) (by rw [hv, mtf, if_neg c16]) _ _ _ hw (lv_sub hl [0, 1, 2] rfl)
  refine lv_iconst (v := nI 0) S.1 S.2.1 dX0_matching_0 (by decide) ?_
  refine lv_istore_n (lv' := [(1, .int (nI 0)), (0, .ref (h 0))]) S.1 S.2.1 dX0_matching_1 rfl hl (by decide) rfl (fun ls hl => ?_)
  refine lv_iconst (v := nI 0) S.1 S.2.1 dX0_matching_2 (by decide) ?_
  refine lv_istore_n (lv' := [(2, .int (nI 0)), (1, .int (nI 0)), (0, .ref (h 0))]) S.1 S.2.1 dX0_matching_3 rfl hl (by decide) rfl (fun ls hl => ?_)
  exact lp 7 0 0 u (by omega) (by omega) (kp_rf u) rfl _ _ _ hw (lv_sub hl [0, 1, 2] rfl)
set_option maxHeartbeats 4000000 in
theorem mX_spanOf (l : Launch) (D : va_G) (h : Nat → Nat) (d : Nat → ClassId) (u : gU) (g a : Int32) (hI : xI u) : gMi l yX0_spanOf cX0_spanOf 5 .int (rk 4) D (xL h d) (xT d) [.ref (h 0), .int g, .int a] u (fun r u' => kp u u' ∧ ((SN (u 3) (u 4 0) g a ∧ r = -1) ∨ ∃ i, SY (u 3) (u 4 0) g a i ∧ r = nI (i + 1) ∧ i + 1 < 12 ∧ ∀ b, b < 24 → u' 9 (24 * (i + 1) + b) = EV (u 0) (u 1) (ix 6 a) (u 3) (u 4 0) (u 4 0) (i + 1) b)) := by
  refine gMi_of (by decide) (Nat.le_of_ble_eq_true rfl) ?_
  intro p e s m args below meth c A Q ls S hw hl hret
  have S : CallFix p m c cX0_spanOf 5 s args lw_all RX0 := S
  have hl : lv_has ls 5 [(0, .ref (h 0)), (1, .int g), (2, .int a)] := hl
  have hq := hI.2.2.2
  have hq1 := hq.1
  refine lv_iload_n S.1 S.2.1 dX0_spanOf_0 rfl (lv_at hl 2 rfl) ?_
  refine g_calls (As := [.int a]) (rest := []) S hw (mX_isDocument l D h d u a) (cw_X0_X0_isDocument S.2.2.2.2 ⟨by decide, by decide⟩) rfl hl.1 rfl (Nat.le_of_ble_eq_true rfl) dX0_spanOf_1 ⟨Nat.zero_le _, Nat.zero_le _⟩ (fun r1 u1 H locs hp1 hw => ?_)
  obtain ⟨rfl, rfl⟩ := hp1
  refine n_if_eq (tgt := 19) S (by exact bN_lt _) dX0_spanOf_4 (by decide) (fun c4 => ?_) (fun c4 => ?_)
  · refine lv_iconst (v := (-1)) S.1 S.2.1 dX0_spanOf_19 (by decide) ?_
    exact hret _ _ dX0_spanOf_20 rfl ⟨kp_rf u, Or.inl ⟨Or.inl (fun q => bN_0 c4 q.1), rfl⟩⟩ hw
  · have ha := bN_1 c4
    obtain ⟨j, hj, ej, hj'⟩ := ix_lt ha
    have hij : ix 6 a = j := by rw [ej]; exact ix_in hj' hj
    rw [ej] at hl
    refine lv_iload_n S.1 S.2.1 dX0_spanOf_7 rfl (lv_at hl 1 rfl) ?_
    refine lv_if_lt (tgt := 19) S.1 S.2.1 dX0_spanOf_8 (by decide) (fun c8 => ?_) (fun c8 => ?_)
    · refine lv_iconst (v := (-1)) S.1 S.2.1 dX0_spanOf_19 (by decide) ?_
      exact hret _ _ dX0_spanOf_20 rfl ⟨kp_rf u, Or.inl ⟨Or.inr (fun i _ q => by have z := q.2; rw [← z] at c8; exact nI_pos (by have := htf_le (u 3) i; omega) c8), rfl⟩⟩ hw
    · refine lv_aload_n S.1 S.2.1 dX0_spanOf_11 rfl (lv_at hl 0 rfl) ?_
      refine lv_iload_n S.1 S.2.1 dX0_spanOf_12 rfl (lv_at hl 2 rfl) ?_
      refine g_calli (As := [.int (nI j)]) (rest := []) S hw (b := h 0) rfl rfl (mX_work l D h d u j hj hI) (cw_X0_X0_work S.2.2.2.2 ⟨by decide, by decide⟩) rfl hl.1 rfl (Nat.le_of_ble_eq_true rfl) dX0_spanOf_13 ⟨Nat.zero_le _, Nat.zero_le _⟩ (fun r2 u2 H locs hp2 hw => ?_)
      obtain ⟨rfl, hkp, hW⟩ := hp2
      refine n_if_ne (tgt := 21) S (by exact bN_lt _) dX0_spanOf_16 (by decide) (fun c16 => ?_) (fun c16 => ?_)
      · have hnd := bN_1 c16
        have hW := hW hnd
        have h4 : u2 4 0 = u 4 0 := by rw [hkp 4 (by decide)]
        have h3 : u2 3 = u 3 := hkp 3 (by decide)
        refine lv_iconst (v := nI 0) S.1 S.2.1 dX0_spanOf_21 (by decide) ?_
        refine lv_istore_n (lv' := [(3, .int (nI 0)), (0, .ref (h 0)), (1, .int g), (2, .int (nI j))]) S.1 S.2.1 dX0_spanOf_22 rfl hl (by decide) rfl (fun ls hl => ?_)
        refine lv_iconst (v := nI 0) S.1 S.2.1 dX0_spanOf_23 (by decide) ?_
        refine lv_istore (lv' := [(4, .int (nI 0)), (3, .int (nI 0)), (0, .ref (h 0)), (1, .int g), (2, .int (nI j))]) S.1 S.2.1 dX0_spanOf_24 hl (by decide) rfl (fun ls hl => ?_)
        have lp : ∀ (n : Nat) (i v : Nat), (i ≤ u 4 0) → (u 4 0 + 1 ≤ i + n) → (v = htf (u 3) i) → (∀ i', i' < i → ¬ SP (u 3) g i') → ∀ (H : Heap) (locs : List Loc) (ls : Array Slot), xW D h d A s H locs u2 → lv_has ls 5 [(4, .int (nI i)), (3, .int (nI v)), (0, .ref (h 0)), (1, .int g)] → W p l e (rk 4) s m args below meth c H locs 0 0 Q (F0 m 26 ls []) := by
          intro n
          induction n with
          | zero =>
            intro i v hi hn hv hno
            exfalso; omega
          | succ n ih =>
            intro i v hi hn hv hno H locs ls hw hl
            refine lv_iload S.1 S.2.1 dX0_spanOf_26 (lv_at hl 0 rfl) ?_
            refine lv_aload_n S.1 S.2.1 dX0_spanOf_28 rfl (lv_at hl 2 rfl) ?_
            refine x_g4 S hw dX0_spanOf_29 ?_
            refine n_icmp_ge (tgt := 66) S (by omega) (by omega) dX0_spanOf_32 (by decide) (fun c32 => ?_) (fun c32 => ?_)
            · refine lv_iconst (v := (-1)) S.1 S.2.1 dX0_spanOf_66 (by decide) ?_
              exact hret _ _ dX0_spanOf_67 rfl ⟨hkp, Or.inl ⟨Or.inr (fun i' hi' => hno i' (by omega)), rfl⟩⟩ hw
            · refine lv_aload_n S.1 S.2.1 dX0_spanOf_35 rfl (lv_at hl 2 rfl) ?_
              refine x_g3 S hw dX0_spanOf_36 ?_
              refine lv_iload S.1 S.2.1 dX0_spanOf_39 (lv_at hl 0 rfl) ?_
              refine x_l3 S hw (by omega) dX0_spanOf_41 ?_
              refine lv_bipush (v := nI 23) S.1 S.2.1 dX0_spanOf_42 (by decide) ?_
              refine n_icmp_ne (tgt := 60) S (by have := hq.2.1 i; rw [h3]; omega) (by omega) dX0_spanOf_44 (by decide) (fun c44 => ?_) (fun c44 => ?_)
              · refine n_iinc (k := 0) (lv' := [(4, .int (nI (i + 1))), (3, .int (nI v)), (0, .ref (h 0)), (1, .int g)]) S dX0_spanOf_60 hl rfl (by decide) rfl (fun ls hl => ?_)
                refine lv_goto (tgt := 26) S.1 S.2.1 dX0_spanOf_63 (by decide) ?_
                exact ih (i + 1) v (by omega) (by omega) (by rw [hv, htf, bN_f (by rw [← h3]; exact c44), Nat.add_zero]) (fun i' hi' => by rcases Nat.lt_succ_iff_lt_or_eq.mp hi' with q | q; (exact hno i' q); (subst q; exact fun z => c44 (by rw [h3]; exact z.1))) _ _ _ hw (lv_sub hl [0, 1, 2, 3] rfl)
              · refine lv_iload_n S.1 S.2.1 dX0_spanOf_47 rfl (lv_at hl 1 rfl) ?_
                refine lv_iload_n S.1 S.2.1 dX0_spanOf_48 rfl (lv_at hl 3 rfl) ?_
                refine lv_icmp_ne (tgt := 57) S.1 S.2.1 dX0_spanOf_49 (by decide) (fun c49 => ?_) (fun c49 => ?_)
                · refine n_iinc (k := 1) (lv' := [(3, .int (nI (v + 1))), (4, .int (nI i)), (0, .ref (h 0)), (1, .int g)]) S dX0_spanOf_57 hl rfl (by decide) rfl (fun ls hl => ?_)
                  refine n_iinc (k := 1) (lv' := [(4, .int (nI (i + 1))), (3, .int (nI (v + 1))), (0, .ref (h 0)), (1, .int g)]) S dX0_spanOf_60 hl rfl (by decide) rfl (fun ls hl => ?_)
                  refine lv_goto (tgt := 26) S.1 S.2.1 dX0_spanOf_63 (by decide) ?_
                  exact ih (i + 1) (v + 1) (by omega) (by omega) (by rw [hv, htf, bN_t (by rw [← h3]; exact c44)]) (fun i' hi' => by rcases Nat.lt_succ_iff_lt_or_eq.mp hi' with q | q; (exact hno i' q); (subst q; exact fun z => c49 (by rw [hv]; exact z.2))) _ _ _ hw (lv_sub hl [0, 1, 2, 3] rfl)
                · refine lv_iload S.1 S.2.1 dX0_spanOf_52 (lv_at hl 0 rfl) ?_
                  refine lv_iconst (v := nI 1) S.1 S.2.1 dX0_spanOf_54 (by decide) ?_
                  refine n_iadd S dX0_spanOf_55 ?_
                  have hc : u 3 i = 23 := by rw [← h3]; exact c44
                  have hkid := has_kid hq hnd (by omega) hc
                  exact hret _ _ dX0_spanOf_56 rfl ⟨hkp, Or.inr ⟨i, ⟨ha, hnd, by omega, ⟨hc, by rw [← hv]; exact c49⟩, hno⟩, rfl, by omega, fun b hb => by rw [hij]; have z := (hW (i + 1) (Nat.zero_le _) hkid.1).1 hkid.2 b hb; rw [Nat.sub_zero] at z; exact z⟩⟩ hw
        exact lp (u 4 0 + 1) 0 0 (by omega) (by omega) rfl (fun i' hi' => absurd hi' (by omega)) _ _ _ hw (lv_sub hl [0, 1, 2, 3] rfl)
      · refine lv_iconst (v := (-1)) S.1 S.2.1 dX0_spanOf_19 (by decide) ?_
        exact hret _ _ dX0_spanOf_20 rfl ⟨hkp, Or.inl ⟨Or.inl (fun q => bN_0 c16 q.2), rfl⟩⟩ hw
noncomputable def spR (z x t : Nat → Nat) (n : Nat) (g a : Int32) (r : Int32) : Prop := (SN t n g a ∧ r = -1) ∨ ∃ i, SY t n g a i ∧ r = nI (spf (EV z x (ix 6 a) t n n (i + 1)) 24)
noncomputable def beR (z x t : Nat → Nat) (n : Nat) (g a b : Int32) (r : Int32) : Prop := (SN t n g a ∧ r = -1) ∨ ∃ i, SY t n g a i ∧ isFst (fun c => b ≤ nI c ∧ EV z x (ix 6 a) t n n (i + 1) c ≠ 0) 24 r
noncomputable def enR (z x t : Nat → Nat) (n : Nat) (g a b : Int32) (r : Int32) : Prop := ((SN t n g a ∨ ¬ ix 24 b < 24) ∧ r = -1) ∨ ∃ i, SY t n g a i ∧ ix 24 b < 24 ∧ isFst (fun e => (EV z x (ix 6 a) t n n (i + 1) (ix 24 b)).testBit e = true) 24 r
theorem spR_eq {z x t : Nat → Nat} {n : Nat} {g a r r' : Int32} (h : spR z x t n g a r) (h' : spR z x t n g a r') : r = r' := by
  rcases h with ⟨h1, rfl⟩ | ⟨i, h1, rfl⟩
  · rcases h' with ⟨g1, rfl⟩ | ⟨j, g1, rfl⟩
    · rfl
    · exact absurd h1 (SY_SN g1)
  · rcases h' with ⟨g1, rfl⟩ | ⟨j, g1, rfl⟩
    · exact absurd g1 (SY_SN h1)
    · rw [SY_eq h1 g1]
theorem beR_eq {z x t : Nat → Nat} {n : Nat} {g a b r r' : Int32} (h : beR z x t n g a b r) (h' : beR z x t n g a b r') : r = r' := by
  rcases h with ⟨h1, rfl⟩ | ⟨i, h1, h2⟩
  · rcases h' with ⟨g1, rfl⟩ | ⟨j, g1, g2⟩
    · rfl
    · exact absurd h1 (SY_SN g1)
  · rcases h' with ⟨g1, rfl⟩ | ⟨j, g1, g2⟩
    · exact absurd g1 (SY_SN h1)
    · rw [SY_eq h1 g1] at h2
      exact isFst_eq h2 g2
theorem enR_eq {z x t : Nat → Nat} {n : Nat} {g a b r r' : Int32} (h : enR z x t n g a b r) (h' : enR z x t n g a b r') : r = r' := by
  rcases h with ⟨h1, rfl⟩ | ⟨i, h1, hb, h2⟩
  · rcases h' with ⟨g1, rfl⟩ | ⟨j, g1, gb, g2⟩
    · rfl
    · rcases h1 with h1 | h1
      · exact absurd h1 (SY_SN g1)
      · exact absurd gb h1
  · rcases h' with ⟨g1, rfl⟩ | ⟨j, g1, gb, g2⟩
    · rcases g1 with g1 | g1
      · exact absurd g1 (SY_SN h1)
      · exact absurd hb g1
    · rw [SY_eq h1 g1] at h2
      exact isFst_eq h2 g2
theorem isFst_congr {P P' : Nat → Prop} {N : Nat} {r : Int32} (e : ∀ c, c < N → (P c ↔ P' c)) (h : isFst P N r) : isFst P' N r := by
  rcases h with ⟨c, h1, h2, h3, rfl⟩ | ⟨h1, rfl⟩
  · exact Or.inl ⟨c, h1, (e c h1).mp h2, fun c' hc' q => h3 c' hc' ((e c' (by omega)).mpr q), rfl⟩
  · exact Or.inr ⟨fun c hc q => h1 c hc ((e c hc).mpr q), rfl⟩
set_option maxHeartbeats 4000000 in
theorem mX_spans (l : Launch) (D : va_G) (h : Nat → Nat) (d : Nat → ClassId) (u : gU) (g a : Int32) (hI : xI u) : gMi l yX0_spans cX0_spans 6 .int (rk 5) D (xL h d) (xT d) [.ref (h 0), .int g, .int a] u (fun r u' => spR (u 0) (u 1) (u 3) (u 4 0) g a r ∧ kp u u') := by
  refine gMi_of (by decide) (Nat.le_of_ble_eq_true rfl) ?_
  intro p e s m args below meth c A Q ls S hw hl hret
  have S : CallFix p m c cX0_spans 6 s args lw_all RX0 := S
  have hl : lv_has ls 6 [(0, .ref (h 0)), (1, .int g), (2, .int a)] := hl
  refine lv_aload_n S.1 S.2.1 dX0_spans_0 rfl (lv_at hl 0 rfl) ?_
  refine lv_iload_n S.1 S.2.1 dX0_spans_1 rfl (lv_at hl 1 rfl) ?_
  refine lv_iload_n S.1 S.2.1 dX0_spans_2 rfl (lv_at hl 2 rfl) ?_
  refine g_calli (As := [.int g, .int a]) (rest := []) S hw (b := h 0) rfl rfl (mX_spanOf l D h d u g a hI) (cw_X0_X0_spanOf S.2.2.2.2 ⟨by decide, by decide⟩) rfl hl.1 rfl (Nat.le_of_ble_eq_true rfl) dX0_spans_3 ⟨Nat.zero_le _, Nat.zero_le _⟩ (fun r1 u1 H locs hp1 hw => ?_)
  obtain ⟨hkp, hS⟩ := hp1
  have hz := hI.1 (ix 6 a)
  rcases hS with ⟨hN, rfl⟩ | ⟨i, hY, rfl, hi12, hE⟩
  · refine lv_istore_n (lv' := [(3, .int ((-1))), (0, .ref (h 0)), (1, .int g), (2, .int a)]) S.1 S.2.1 dX0_spans_6 rfl hl (by decide) rfl (fun ls hl => ?_)
    refine lv_iload_n S.1 S.2.1 dX0_spans_7 rfl (lv_at hl 0 rfl) ?_
    refine lv_if_ge (tgt := 13) S.1 S.2.1 dX0_spans_8 (by decide) (fun c8 => ?_) (fun c8 => ?_)
    · exact absurd c8 (by decide)
    · refine lv_iconst (v := (-1)) S.1 S.2.1 dX0_spans_11 (by decide) ?_
      exact hret _ _ dX0_spans_12 rfl (⟨Or.inl ⟨hN, rfl⟩, hkp⟩) hw
  · refine lv_istore_n (lv' := [(3, .int (nI (i + 1))), (0, .ref (h 0)), (1, .int g), (2, .int a)]) S.1 S.2.1 dX0_spans_6 rfl hl (by decide) rfl (fun ls hl => ?_)
    refine lv_iload_n S.1 S.2.1 dX0_spans_7 rfl (lv_at hl 0 rfl) ?_
    refine n_if_ge (tgt := 13) S (by omega) dX0_spans_8 (by decide) ?_
    refine lv_iconst (v := nI 0) S.1 S.2.1 dX0_spans_13 (by decide) ?_
    refine lv_istore (lv' := [(4, .int (nI 0)), (3, .int (nI (i + 1))), (0, .ref (h 0)), (1, .int g), (2, .int a)]) S.1 S.2.1 dX0_spans_14 hl (by decide) rfl (fun ls hl => ?_)
    refine lv_iconst (v := nI 0) S.1 S.2.1 dX0_spans_16 (by decide) ?_
    refine lv_istore (lv' := [(5, .int (nI 0)), (4, .int (nI 0)), (3, .int (nI (i + 1))), (0, .ref (h 0)), (1, .int g), (2, .int a)]) S.1 S.2.1 dX0_spans_17 hl (by decide) rfl (fun ls hl => ?_)
    have lp : ∀ (n : Nat) (b v : Nat), (b ≤ 24) → (25 ≤ b + n) → (v = spf (EV (u 0) (u 1) (ix 6 a) (u 3) (u 4 0) (u 4 0) (i + 1)) b) → ∀ (H : Heap) (locs : List Loc) (ls : Array Slot), xW D h d A s H locs u1 → lv_has ls 6 [(5, .int (nI b)), (4, .int (nI v)), (3, .int (nI (i + 1))), (0, .ref (h 0))] → W p l e (rk 5) s m args below meth c H locs 0 0 Q (F0 m 19 ls []) := by
      intro n
      induction n with
      | zero =>
        intro b v hb hn hv
        exfalso; omega
      | succ n ih =>
        intro b v hb hn hv H locs ls hw hl
        refine lv_iload S.1 S.2.1 dX0_spans_19 (lv_at hl 0 rfl) ?_
        refine lv_bipush (v := nI 24) S.1 S.2.1 dX0_spans_21 (by decide) ?_
        refine n_icmp_ge (tgt := 52) S (by omega) (by omega) dX0_spans_23 (by decide) (fun c23 => ?_) (fun c23 => ?_)
        · refine lv_iload S.1 S.2.1 dX0_spans_52 (lv_at hl 1 rfl) ?_
          exact hret _ _ dX0_spans_54 rfl (⟨Or.inr ⟨i, hY, by rw [hv, show b = 24 by omega]⟩, hkp⟩) hw
        · refine lv_iload S.1 S.2.1 dX0_spans_26 (lv_at hl 1 rfl) ?_
          refine lv_aload_n S.1 S.2.1 dX0_spans_28 rfl (lv_at hl 3 rfl) ?_
          refine x_g9 S hw dX0_spans_29 ?_
          refine lv_iload_n S.1 S.2.1 dX0_spans_32 rfl (lv_at hl 2 rfl) ?_
          refine lv_bipush (v := nI 24) S.1 S.2.1 dX0_spans_33 (by decide) ?_
          refine n_imulc S dX0_spans_35 ?_
          refine lv_iload S.1 S.2.1 dX0_spans_36 (lv_at hl 0 rfl) ?_
          refine n_iadd S dX0_spans_38 ?_
          refine x_l9 S hw (by omega) dX0_spans_39 ?_
          refine g_calls (As := [.int (nI (u1 9 ((24 * (i + 1)) + b)))]) (rest := [.int (nI v)]) S hw (mX_ones l D h d u1 (u1 9 ((24 * (i + 1)) + b)) (by rw [hE b (by omega)]; exact EV_lt hz _ _ _)) (cw_X0_X0_ones S.2.2.2.2 ⟨by decide, by decide⟩) rfl hl.1 rfl (Nat.le_of_ble_eq_true rfl) dX0_spans_40 ⟨Nat.zero_le _, Nat.zero_le _⟩ (fun r2 u2 H locs hp2 hw => ?_)
          obtain ⟨rfl, rfl⟩ := hp2
          refine n_iadd S dX0_spans_43 ?_
          refine lv_istore (lv' := [(4, .int (nI (v + (onf (u1 9 ((24 * (i + 1)) + b)) 24)))), (5, .int (nI b)), (3, .int (nI (i + 1))), (0, .ref (h 0))]) S.1 S.2.1 dX0_spans_44 hl (by decide) rfl (fun ls hl => ?_)
          refine n_iinc (k := 1) (lv' := [(5, .int (nI (b + 1))), (4, .int (nI (v + (onf (u1 9 ((24 * (i + 1)) + b)) 24)))), (3, .int (nI (i + 1))), (0, .ref (h 0))]) S dX0_spans_46 hl rfl (by decide) rfl (fun ls hl => ?_)
          refine lv_goto (tgt := 19) S.1 S.2.1 dX0_spans_49 (by decide) ?_
          exact ih (b + 1) (v + (onf (u1 9 ((24 * (i + 1)) + b)) 24)) (by omega) (by omega) (by rw [hv, spf, hE b (by omega)]) _ _ _ hw (lv_sub hl [0, 1, 2, 3] rfl)
    exact lp 25 0 0 (by omega) (by omega) rfl _ _ _ hw (lv_sub hl [0, 1, 2, 3] rfl)
set_option maxHeartbeats 4000000 in
theorem mX_begins (l : Launch) (D : va_G) (h : Nat → Nat) (d : Nat → ClassId) (u : gU) (g a b : Int32) (hI : xI u) : gMi l yX0_begins cX0_begins 5 .int (rk 5) D (xL h d) (xT d) [.ref (h 0), .int g, .int a, .int b] u (fun r u' => beR (u 0) (u 1) (u 3) (u 4 0) g a b r ∧ kp u u') := by
  refine gMi_of (by decide) (Nat.le_of_ble_eq_true rfl) ?_
  intro p e s m args below meth c A Q ls S hw hl hret
  have S : CallFix p m c cX0_begins 5 s args lw_all RX0 := S
  have hl : lv_has ls 5 [(0, .ref (h 0)), (1, .int g), (2, .int a), (3, .int b)] := hl
  refine lv_aload_n S.1 S.2.1 dX0_begins_0 rfl (lv_at hl 0 rfl) ?_
  refine lv_iload_n S.1 S.2.1 dX0_begins_1 rfl (lv_at hl 1 rfl) ?_
  refine lv_iload_n S.1 S.2.1 dX0_begins_2 rfl (lv_at hl 2 rfl) ?_
  refine g_calli (As := [.int g, .int a]) (rest := []) S hw (b := h 0) rfl rfl (mX_spanOf l D h d u g a hI) (cw_X0_X0_spanOf S.2.2.2.2 ⟨by decide, by decide⟩) rfl hl.1 rfl (Nat.le_of_ble_eq_true rfl) dX0_begins_3 ⟨Nat.zero_le _, Nat.zero_le _⟩ (fun r1 u1 H locs hp1 hw => ?_)
  obtain ⟨hkp, hS⟩ := hp1
  have hz := hI.1 (ix 6 a)
  rcases hS with ⟨hN, rfl⟩ | ⟨i, hY, rfl, hi12, hE⟩
  · refine lv_istore (lv' := [(4, .int ((-1))), (0, .ref (h 0)), (1, .int g), (2, .int a), (3, .int b)]) S.1 S.2.1 dX0_begins_6 hl (by decide) rfl (fun ls hl => ?_)
    refine lv_iload S.1 S.2.1 dX0_begins_8 (lv_at hl 0 rfl) ?_
    refine lv_if_ge (tgt := 17) S.1 S.2.1 dX0_begins_10 (by decide) (fun c10 => ?_) (fun c10 => ?_)
    · exact absurd c10 (by decide)
    · refine lv_iconst (v := (-1)) S.1 S.2.1 dX0_begins_13 (by decide) ?_
      refine lv_goto (tgt := 24) S.1 S.2.1 dX0_begins_14 (by decide) ?_
      exact hret _ _ dX0_begins_24 rfl (⟨Or.inl ⟨hN, rfl⟩, hkp⟩) hw
  · refine lv_istore (lv' := [(4, .int (nI (i + 1))), (0, .ref (h 0)), (1, .int g), (2, .int a), (3, .int b)]) S.1 S.2.1 dX0_begins_6 hl (by decide) rfl (fun ls hl => ?_)
    refine lv_iload S.1 S.2.1 dX0_begins_8 (lv_at hl 0 rfl) ?_
    refine n_if_ge (tgt := 17) S (by omega) dX0_begins_10 (by decide) ?_
    refine lv_aload_n S.1 S.2.1 dX0_begins_17 rfl (lv_at hl 1 rfl) ?_
    refine lv_iload S.1 S.2.1 dX0_begins_18 (lv_at hl 0 rfl) ?_
    refine lv_iload_n S.1 S.2.1 dX0_begins_20 rfl (lv_at hl 4 rfl) ?_
    refine g_calli (As := [.int (nI (i + 1)), .int b]) (rest := []) S hw (b := h 0) rfl rfl (mX_firstBegin l D h d u1 (i + 1) b hi12 (fun c hc => by rw [hE c hc]; exact EV_lt hz _ _ _)) (cw_X0_X0_firstBegin S.2.2.2.2 ⟨by decide, by decide⟩) rfl hl.1 rfl (Nat.le_of_ble_eq_true rfl) dX0_begins_21 ⟨Nat.zero_le _, Nat.zero_le _⟩ (fun r2 u2 H locs hp2 hw => ?_)
    obtain ⟨hF, rfl⟩ := hp2
    exact hret _ _ dX0_begins_24 rfl (⟨Or.inr ⟨i, hY, isFst_congr (fun c hc => by rw [hE c hc]) hF⟩, hkp⟩) hw
set_option maxHeartbeats 4000000 in
theorem mX_ends (l : Launch) (D : va_G) (h : Nat → Nat) (d : Nat → ClassId) (u : gU) (g a b : Int32) (hI : xI u) : gMi l yX0_ends cX0_ends 7 .int (rk 5) D (xL h d) (xT d) [.ref (h 0), .int g, .int a, .int b] u (fun r u' => enR (u 0) (u 1) (u 3) (u 4 0) g a b r ∧ kp u u') := by
  refine gMi_of (by decide) (Nat.le_of_ble_eq_true rfl) ?_
  intro p e s m args below meth c A Q ls S hw hl hret
  have S : CallFix p m c cX0_ends 7 s args lw_all RX0 := S
  have hl : lv_has ls 7 [(0, .ref (h 0)), (1, .int g), (2, .int a), (3, .int b)] := hl
  refine lv_aload_n S.1 S.2.1 dX0_ends_0 rfl (lv_at hl 0 rfl) ?_
  refine lv_iload_n S.1 S.2.1 dX0_ends_1 rfl (lv_at hl 1 rfl) ?_
  refine lv_iload_n S.1 S.2.1 dX0_ends_2 rfl (lv_at hl 2 rfl) ?_
  refine g_calli (As := [.int g, .int a]) (rest := []) S hw (b := h 0) rfl rfl (mX_spanOf l D h d u g a hI) (cw_X0_X0_spanOf S.2.2.2.2 ⟨by decide, by decide⟩) rfl hl.1 rfl (Nat.le_of_ble_eq_true rfl) dX0_ends_3 ⟨Nat.zero_le _, Nat.zero_le _⟩ (fun r1 u1 H locs hp1 hw => ?_)
  obtain ⟨hkp, hS⟩ := hp1
  have hz := hI.1 (ix 6 a)
  rcases hS with ⟨hN, rfl⟩ | ⟨i, hY, rfl, hi12, hE⟩
  · refine lv_istore (lv' := [(4, .int ((-1))), (0, .ref (h 0)), (1, .int g), (2, .int a), (3, .int b)]) S.1 S.2.1 dX0_ends_6 hl (by decide) rfl (fun ls hl => ?_)
    refine lv_iload S.1 S.2.1 dX0_ends_8 (lv_at hl 0 rfl) ?_
    refine lv_if_lt (tgt := 23) S.1 S.2.1 dX0_ends_10 (by decide) (fun c10 => ?_) (fun c10 => ?_)
    · refine lv_iconst (v := (-1)) S.1 S.2.1 dX0_ends_23 (by decide) ?_
      exact hret _ _ dX0_ends_24 rfl (⟨Or.inl ⟨Or.inl hN, rfl⟩, hkp⟩) hw
    · exact absurd (by decide) c10
  · refine lv_istore (lv' := [(4, .int (nI (i + 1))), (0, .ref (h 0)), (1, .int g), (2, .int a), (3, .int b)]) S.1 S.2.1 dX0_ends_6 hl (by decide) rfl (fun ls hl => ?_)
    refine lv_iload S.1 S.2.1 dX0_ends_8 (lv_at hl 0 rfl) ?_
    refine n_if_lt (tgt := 23) S (by omega) dX0_ends_10 (by decide) ?_
    refine lv_iload_n S.1 S.2.1 dX0_ends_13 rfl (lv_at hl 4 rfl) ?_
    refine lv_if_lt (tgt := 23) S.1 S.2.1 dX0_ends_14 (by decide) (fun c14 => ?_) (fun c14 => ?_)
    · refine lv_iconst (v := (-1)) S.1 S.2.1 dX0_ends_23 (by decide) ?_
      exact hret _ _ dX0_ends_24 rfl ⟨Or.inl ⟨Or.inr (by rw [ix_neg c14]; omega), rfl⟩, hkp⟩ hw
    · obtain ⟨bb, hb', rfl⟩ := nI_of c14
      refine lv_iload_n S.1 S.2.1 dX0_ends_17 rfl (lv_at hl 4 rfl) ?_
      refine lv_bipush (v := nI 24) S.1 S.2.1 dX0_ends_18 (by decide) ?_
      refine n_icmp_lt (tgt := 25) S (by omega) (by omega) dX0_ends_20 (by decide) (fun c20 => ?_) (fun c20 => ?_)
      · have hib : ix 24 (nI bb) = bb := ix_in hb' c20
        have hEb := hE bb c20
        have hlt : u1 9 (24 * (i + 1) + bb) < 2 ^ 24 := by rw [hEb]; exact EV_lt hz _ _ _
        refine lv_aload_n S.1 S.2.1 dX0_ends_25 rfl (lv_at hl 1 rfl) ?_
        refine x_g9 S hw dX0_ends_26 ?_
        refine lv_iload S.1 S.2.1 dX0_ends_29 (lv_at hl 0 rfl) ?_
        refine lv_bipush (v := nI 24) S.1 S.2.1 dX0_ends_31 (by decide) ?_
        refine n_imulc S dX0_ends_33 ?_
        refine lv_iload_n S.1 S.2.1 dX0_ends_34 rfl (lv_at hl 4 rfl) ?_
        refine n_iadd S dX0_ends_35 ?_
        refine x_l9 S hw (by omega) dX0_ends_36 ?_
        refine lv_istore (lv' := [(5, .int (nI (u1 9 ((24 * (i + 1)) + bb)))), (4, .int (nI (i + 1))), (0, .ref (h 0)), (1, .int g), (2, .int a), (3, .int (nI bb))]) S.1 S.2.1 dX0_ends_37 hl (by decide) rfl (fun ls hl => ?_)
        refine lv_iconst (v := nI 0) S.1 S.2.1 dX0_ends_39 (by decide) ?_
        refine lv_istore (lv' := [(6, .int (nI 0)), (5, .int (nI (u1 9 ((24 * (i + 1)) + bb)))), (4, .int (nI (i + 1))), (0, .ref (h 0)), (1, .int g), (2, .int a), (3, .int (nI bb))]) S.1 S.2.1 dX0_ends_40 hl (by decide) rfl (fun ls hl => ?_)
        have lp : ∀ (n : Nat) (e6 : Nat), (e6 ≤ 24) → (25 ≤ e6 + n) → (∀ e, e < e6 → ¬ (u1 9 (24 * (i + 1) + bb)).testBit e = true) → ∀ (H : Heap) (locs : List Loc) (ls : Array Slot), xW D h d A s H locs u1 → lv_has ls 7 [(6, .int (nI e6)), (5, .int (nI (u1 9 (24 * (i + 1) + bb))))] → W p l e (rk 5) s m args below meth c H locs 0 0 Q (F0 m 42 ls []) := by
          intro n
          induction n with
          | zero =>
            intro e6 he hn hno
            exfalso; omega
          | succ n ih =>
            intro e6 he hn hno H locs ls hw hl
            refine lv_iload S.1 S.2.1 dX0_ends_42 (lv_at hl 0 rfl) ?_
            refine lv_bipush (v := nI 24) S.1 S.2.1 dX0_ends_44 (by decide) ?_
            refine n_icmp_ge (tgt := 68) S (by omega) (by omega) dX0_ends_46 (by decide) (fun c46 => ?_) (fun c46 => ?_)
            · refine lv_iconst (v := (-1)) S.1 S.2.1 dX0_ends_68 (by decide) ?_
              exact hret _ _ dX0_ends_69 rfl ⟨Or.inr ⟨i, hY, by rw [hib]; exact c20, Or.inr ⟨fun e he q => hno e (by omega) (by rw [hEb]; rw [hib] at q; exact q), rfl⟩⟩, hkp⟩ hw
            · refine lv_iload S.1 S.2.1 dX0_ends_49 (lv_at hl 1 rfl) ?_
              refine lv_iload S.1 S.2.1 dX0_ends_51 (lv_at hl 0 rfl) ?_
              refine n_ishr S (by omega) (by omega) dX0_ends_53 ?_
              refine lv_iconst (v := nI 1) S.1 S.2.1 dX0_ends_54 (by decide) ?_
              refine n_iand S dX0_ends_55 ?_
              refine n_if_eq (tgt := 62) S (by have := bt_2 (u1 9 (24 * (i + 1) + bb)) e6; omega) dX0_ends_56 (by decide) (fun c56 => ?_) (fun c56 => ?_)
              · refine n_iinc (k := 0) (lv' := [(6, .int (nI (e6 + 1))), (5, .int (nI (u1 9 (24 * (i + 1) + bb))))]) S dX0_ends_62 hl rfl (by decide) rfl (fun ls hl => ?_)
                refine lv_goto (tgt := 42) S.1 S.2.1 dX0_ends_65 (by decide) ?_
                exact ih (e6 + 1) (by omega) (by omega) (fun e he q => by rcases Nat.lt_succ_iff_lt_or_eq.mp he with r | r; (exact hno e r q); (subst r; rw [bt_0 c56] at q; cases q)) _ _ _ hw (lv_sub hl [0, 1] rfl)
              · refine lv_iload S.1 S.2.1 dX0_ends_59 (lv_at hl 0 rfl) ?_
                exact hret _ _ dX0_ends_61 rfl ⟨Or.inr ⟨i, hY, by rw [hib]; exact c20, Or.inl ⟨e6, by omega, by rw [hib, ← hEb]; exact bt_1 c56, fun e he q => hno e he (by rw [hEb]; rw [hib] at q; exact q), rfl⟩⟩, hkp⟩ hw
        exact lp 25 0 (by omega) (by omega) (fun e he => absurd he (by omega)) _ _ _ hw (lv_sub hl [0, 1] rfl)
      · refine lv_iconst (v := (-1)) S.1 S.2.1 dX0_ends_23 (by decide) ?_
        exact hret _ _ dX0_ends_24 rfl ⟨Or.inl ⟨Or.inr (by rw [ix_nI hb']; omega), rfl⟩, hkp⟩ hw
end
section
/-! the leaves and the documents of PhraseIndexModel, printed by gen/mleaf.py -/
set_option maxRecDepth 100000
set_option maxHeartbeats 4000000 in
theorem mM_document (l : Launch) (D : va_G) (h : Nat → Nat) (d : Nat → ClassId) (u : gU) (x : Int32) : gMi l yX1_document cX1_document 2 .boolean (rk 0) D (mL h d) (mT d) [.ref (h 0), .int x] u (fun r u' => r = nI (bN (ix 6 x < 6)) ∧ u = u') := by
  refine gMi_of (by decide) (Nat.le_of_ble_eq_true rfl) ?_
  intro p e s m args below meth c A Q ls S hw hl hret
  have S : CallFix p m c cX1_document 2 s args lw_all RX1 := S
  have hl : lv_has ls 2 [(0, .ref (h 0)), (1, .int x)] := hl
  by_cases hx : x < 0
  · refine lv_iload_n S.1 S.2.1 dX1_document_0 rfl (lv_at hl 1 rfl) ?_
    refine lv_if_lt (tgt := 13) S.1 S.2.1 dX1_document_1 (by decide) (fun c1 => ?_) (fun c1 => ?_)
    · refine lv_iconst (v := nI 0) S.1 S.2.1 dX1_document_13 (by decide) ?_
      exact hret _ _ dX1_document_14 (nI_zn _ (by decide)) (⟨by rw [ix_neg hx]; decide, rfl⟩) hw
    · exact absurd hx c1
  · obtain ⟨j, hj, rfl⟩ := nI_of hx
    refine lv_iload_n S.1 S.2.1 dX1_document_0 rfl (lv_at hl 1 rfl) ?_
    refine n_if_lt (tgt := 13) S (by omega) dX1_document_1 (by decide) ?_
    refine lv_iload_n S.1 S.2.1 dX1_document_4 rfl (lv_at hl 1 rfl) ?_
    refine lv_iconst (v := nI 5) S.1 S.2.1 dX1_document_5 (by decide) ?_
    refine n_icmp_gt (tgt := 13) S (by omega) (by omega) dX1_document_6 (by decide) (fun c6 => ?_) (fun c6 => ?_)
    · refine lv_iconst (v := nI 0) S.1 S.2.1 dX1_document_13 (by decide) ?_
      exact hret _ _ dX1_document_14 (nI_zn _ (by decide)) (⟨congrArg nI (by rw [ix_nI hj]; exact (bN_f (by omega)).symm), rfl⟩) hw
    · refine lv_iconst (v := nI 1) S.1 S.2.1 dX1_document_9 (by decide) ?_
      refine lv_goto (tgt := 14) S.1 S.2.1 dX1_document_10 (by decide) ?_
      exact hret _ _ dX1_document_14 (nI_zn _ (by decide)) (⟨congrArg nI (by rw [ix_nI hj]; exact (bN_t (by omega)).symm), rfl⟩) hw
set_option maxHeartbeats 4000000 in
theorem mM_parts (l : Launch) (D : va_G) (h : Nat → Nat) (d : Nat → ClassId) (u : gU) (t : Nat) (ht : t < 24) : gMi l yX1_parts cX1_parts 2 .int (rk 0) D (mL h d) (mT d) [.ref (h 0), .int (nI t)] u (fun r u' => r = nI (ar t) ∧ u = u') := by
  refine gMi_of (by decide) (Nat.le_of_ble_eq_true rfl) ?_
  intro p e s m args below meth c A Q ls S hw hl hret
  have S : CallFix p m c cX1_parts 2 s args lw_all RX1 := S
  have hl : lv_has ls 2 [(0, .ref (h 0)), (1, .int (nI t))] := hl
  refine lv_iload_n S.1 S.2.1 dX1_parts_0 rfl (lv_at hl 1 rfl) ?_
  refine lv_bipush (v := nI 11) S.1 S.2.1 dX1_parts_1 (by decide) ?_
  refine n_icmp_gt (tgt := 10) S (by omega) (by omega) dX1_parts_3 (by decide) (fun c3 => ?_) (fun c3 => ?_)
  · refine lv_iload_n S.1 S.2.1 dX1_parts_10 rfl (lv_at hl 1 rfl) ?_
    refine lv_bipush (v := nI 22) S.1 S.2.1 dX1_parts_11 (by decide) ?_
    refine n_icmp_lt (tgt := 20) S (by omega) (by omega) dX1_parts_13 (by decide) (fun c13 => ?_) (fun c13 => ?_)
    · refine lv_iconst (v := nI 2) S.1 S.2.1 dX1_parts_20 (by decide) ?_
      exact hret _ _ dX1_parts_21 rfl (⟨congrArg nI (by unfold ar; rw [if_neg (by omega), if_neg (by omega)]), rfl⟩) hw
    · refine lv_iconst (v := nI 1) S.1 S.2.1 dX1_parts_16 (by decide) ?_
      refine lv_goto (tgt := 21) S.1 S.2.1 dX1_parts_17 (by decide) ?_
      exact hret _ _ dX1_parts_21 rfl (⟨congrArg nI (by unfold ar; rw [if_neg (by omega), if_pos (by omega)]), rfl⟩) hw
  · refine lv_iconst (v := nI 0) S.1 S.2.1 dX1_parts_6 (by decide) ?_
    refine lv_goto (tgt := 21) S.1 S.2.1 dX1_parts_7 (by decide) ?_
    exact hret _ _ dX1_parts_21 rfl (⟨congrArg nI (by unfold ar; rw [if_pos (by omega)]), rfl⟩) hw
/-- the invariant of PhraseIndexModel -/
def mI (u : gU) : Prop := (∀ i, u 0 i ≤ 24) ∧ (∀ i, u 1 i < 12) ∧ qI (u 3) (u 2 0)
def km (u u' : gU) : Prop := ∀ a, a < 4 → u' a = u a
theorem km_rf (u : gU) : km u u := fun _ _ => rfl
theorem km_tr {u v w : gU} (h : km u v) (h' : km v w) : km u w := fun a ha => (h' a ha).trans (h a ha)
theorem mI_km {u u' : gU} (h : mI u) (k : km u u') : mI u' := by
  unfold mI
  rw [k 0 (by decide), k 1 (by decide), k 2 (by decide), k 3 (by decide)]
  exact h
set_option maxHeartbeats 4000000 in
theorem mM_write (l : Launch) (D : va_G) (h : Nat → Nat) (d : Nat → ClassId) (u : gU) (a b : Int32) (hI : mI u) : gMi l yX1_write cX1_write 3 .int (rk 1) D (mL h d) (mT d) [.ref (h 0), .int a, .int b] u (fun r u' => (r, u' 0, u' 1) = wrF (u 0) (u 1) a b ∧ u' 2 = u 2 ∧ u' 3 = u 3) := by
  refine gMi_of (by decide) (Nat.le_of_ble_eq_true rfl) ?_
  intro p e s m args below meth c A Q ls S hw hl hret
  have S : CallFix p m c cX1_write 3 s args lw_all RX1 := S
  have hl : lv_has ls 3 [(0, .ref (h 0)), (1, .int a), (2, .int b)] := hl
  refine lv_aload_n S.1 S.2.1 dX1_write_0 rfl (lv_at hl 0 rfl) ?_
  refine lv_iload_n S.1 S.2.1 dX1_write_1 rfl (lv_at hl 1 rfl) ?_
  refine g_calli (As := [.int a]) (rest := []) S hw (b := h 0) rfl rfl (mM_document l D h d u a) (cw_X1_X1_document S.2.2.2.2 ⟨by decide, by decide⟩) rfl hl.1 rfl (Nat.le_of_ble_eq_true rfl) dX1_write_2 ⟨Nat.zero_le _, Nat.zero_le _⟩ (fun r1 u1 H locs hp1 hw => ?_)
  obtain ⟨rfl, rfl⟩ := hp1
  refine n_if_eq (tgt := 18) S (by exact bN_lt _) dX1_write_5 (by decide) (fun c5 => ?_) (fun c5 => ?_)
  · refine lv_iconst (v := (-1)) S.1 S.2.1 dX1_write_18 (by decide) ?_
    exact hret _ _ dX1_write_19 rfl ⟨by unfold wrF; rw [if_neg (fun q => bN_0 c5 q.1)], rfl, rfl⟩ hw
  · obtain ⟨j, hj, rfl, hj'⟩ := ix_lt (bN_1 c5)
    refine lv_iload_n S.1 S.2.1 dX1_write_8 rfl (lv_at hl 2 rfl) ?_
    refine lv_if_lt (tgt := 18) S.1 S.2.1 dX1_write_9 (by decide) (fun c9 => ?_) (fun c9 => ?_)
    · refine lv_iconst (v := (-1)) S.1 S.2.1 dX1_write_18 (by decide) ?_
      exact hret _ _ dX1_write_19 rfl ⟨by unfold wrF; rw [if_neg (fun q => by have z := q.2; rw [ix_neg c9] at z; omega)], rfl, rfl⟩ hw
    · obtain ⟨k, hk', rfl⟩ := nI_of c9
      refine lv_iload_n S.1 S.2.1 dX1_write_12 rfl (lv_at hl 2 rfl) ?_
      refine lv_bipush (v := nI 11) S.1 S.2.1 dX1_write_13 (by decide) ?_
      refine n_icmp_le (tgt := 20) S (by omega) (by omega) dX1_write_15 (by decide) (fun c15 => ?_) (fun c15 => ?_)
      · refine lv_aload_n S.1 S.2.1 dX1_write_20 rfl (lv_at hl 0 rfl) ?_
        refine m_g0 S hw dX1_write_21 ?_
        refine lv_iload_n S.1 S.2.1 dX1_write_24 rfl (lv_at hl 1 rfl) ?_
        refine m_l0 S hw (by omega) dX1_write_25 ?_
        refine lv_bipush (v := nI 24) S.1 S.2.1 dX1_write_26 (by decide) ?_
        refine n_icmp_lt (tgt := 34) S (by have := hI.1 j; omega) (by omega) dX1_write_28 (by decide) (fun c28 => ?_) (fun c28 => ?_)
        · refine lv_aload_n S.1 S.2.1 dX1_write_34 rfl (lv_at hl 0 rfl) ?_
          refine m_g1 S hw dX1_write_35 ?_
          refine lv_bipush (v := nI 24) S.1 S.2.1 dX1_write_38 (by decide) ?_
          refine lv_iload_n S.1 S.2.1 dX1_write_40 rfl (lv_at hl 1 rfl) ?_
          refine n_imul S dX1_write_41 ?_
          refine lv_aload_n S.1 S.2.1 dX1_write_42 rfl (lv_at hl 0 rfl) ?_
          refine m_g0 S hw dX1_write_43 ?_
          refine lv_iload_n S.1 S.2.1 dX1_write_46 rfl (lv_at hl 1 rfl) ?_
          refine m_l0 S hw (by omega) dX1_write_47 ?_
          refine n_iadd S dX1_write_48 ?_
          refine lv_iload_n S.1 S.2.1 dX1_write_49 rfl (lv_at hl 2 rfl) ?_
          refine m_s1 S hw (by have := hI.1 j; omega) dX1_write_50 (fun u2 eu2 H locs hw => ?_)
          refine lv_aload_n S.1 S.2.1 dX1_write_51 rfl (lv_at hl 0 rfl) ?_
          refine m_g0 S hw dX1_write_52 ?_
          refine lv_iload_n S.1 S.2.1 dX1_write_55 rfl (lv_at hl 1 rfl) ?_
          refine lv_dup2_11 S.1 S.2.1 dX1_write_56 rfl rfl ?_
          refine m_l0 S hw (by omega) dX1_write_57 ?_
          refine lv_iconst (v := nI 1) S.1 S.2.1 dX1_write_58 (by decide) ?_
          refine n_iadd S dX1_write_59 ?_
          refine m_s0 S hw (by omega) dX1_write_60 (fun u3 eu3 H locs hw => ?_)
          have y0 : u3 0 j = u 0 j + 1 := by rw [eu3, gup_s, va_up_self, eu2, gup_n _ _ _ (by decide)]
          refine lv_aload_n S.1 S.2.1 dX1_write_61 rfl (lv_at hl 0 rfl) ?_
          refine m_g0 S hw dX1_write_62 ?_
          refine lv_iload_n S.1 S.2.1 dX1_write_65 rfl (lv_at hl 1 rfl) ?_
          refine m_l0 S hw (by omega) dX1_write_66 ?_
          refine lv_iconst (v := nI 1) S.1 S.2.1 dX1_write_67 (by decide) ?_
          refine n_isub S (by rw [y0]; omega) dX1_write_68 ?_
          have f0 : u3 0 = va_up (u 0) j (u 0 j + 1) := by rw [eu3, gup_s, eu2, gup_n _ _ _ (by decide)]
          have f1 : u3 1 = va_up (u 1) (24 * j + u 0 j) k := by rw [eu3, gup_n _ _ _ (by decide), eu2, gup_s]
          exact hret _ _ dX1_write_69 rfl ⟨by unfold wrF; rw [ix_in hj' hj, ix_in hk' (by omega), if_pos ⟨hj, by omega⟩, if_pos (by omega), f0, f1, va_up_self, Nat.add_sub_cancel], by rw [eu3, gup_n _ _ _ (by decide), eu2, gup_n _ _ _ (by decide)], by rw [eu3, gup_n _ _ _ (by decide), eu2, gup_n _ _ _ (by decide)]⟩ hw
        · refine lv_bipush (v := (-2)) S.1 S.2.1 dX1_write_31 (by decide) ?_
          exact hret _ _ dX1_write_33 rfl ⟨by unfold wrF; rw [ix_in hj' hj, ix_in hk' (by omega), if_pos ⟨hj, by omega⟩, if_neg (by omega)], rfl, rfl⟩ hw
      · refine lv_iconst (v := (-1)) S.1 S.2.1 dX1_write_18 (by decide) ?_
        exact hret _ _ dX1_write_19 rfl ⟨by unfold wrF; rw [if_neg (fun q => by have z := q.2; rw [ix_nI hk'] at z; omega)], rfl, rfl⟩ hw
set_option maxHeartbeats 4000000 in
theorem mM_change (l : Launch) (D : va_G) (h : Nat → Nat) (d : Nat → ClassId) (u : gU) (a g b : Int32) (hI : mI u) : gMi l yX1_change cX1_change 4 .boolean (rk 1) D (mL h d) (mT d) [.ref (h 0), .int a, .int g, .int b] u (fun r u' => (r, u' 1) = chF (u 0) (u 1) a g b ∧ u' 0 = u 0 ∧ u' 2 = u 2 ∧ u' 3 = u 3) := by
  refine gMi_of (by decide) (Nat.le_of_ble_eq_true rfl) ?_
  intro p e s m args below meth c A Q ls S hw hl hret
  have S : CallFix p m c cX1_change 4 s args lw_all RX1 := S
  have hl : lv_has ls 4 [(0, .ref (h 0)), (1, .int a), (2, .int g), (3, .int b)] := hl
  refine lv_aload_n S.1 S.2.1 dX1_change_0 rfl (lv_at hl 0 rfl) ?_
  refine lv_iload_n S.1 S.2.1 dX1_change_1 rfl (lv_at hl 1 rfl) ?_
  refine g_calli (As := [.int a]) (rest := []) S hw (b := h 0) rfl rfl (mM_document l D h d u a) (cw_X1_X1_document S.2.2.2.2 ⟨by decide, by decide⟩) rfl hl.1 rfl (Nat.le_of_ble_eq_true rfl) dX1_change_2 ⟨Nat.zero_le _, Nat.zero_le _⟩ (fun r1 u1 H locs hp1 hw => ?_)
  obtain ⟨rfl, rfl⟩ := hp1
  refine n_if_eq (tgt := 32) S (by exact bN_lt _) dX1_change_5 (by decide) (fun c5 => ?_) (fun c5 => ?_)
  · refine lv_iconst (v := nI 0) S.1 S.2.1 dX1_change_32 (by decide) ?_
    exact hret _ _ dX1_change_33 (nI_zn _ (by decide)) ⟨by unfold chF; rw [if_neg (fun q => bN_0 c5 q.1)], rfl, rfl, rfl⟩ hw
  · obtain ⟨j, hj, rfl, hj'⟩ := ix_lt (bN_1 c5)
    refine lv_iload_n S.1 S.2.1 dX1_change_8 rfl (lv_at hl 2 rfl) ?_
    refine lv_if_lt (tgt := 32) S.1 S.2.1 dX1_change_9 (by decide) (fun c9 => ?_) (fun c9 => ?_)
    · refine lv_iconst (v := nI 0) S.1 S.2.1 dX1_change_32 (by decide) ?_
      exact hret _ _ dX1_change_33 (nI_zn _ (by decide)) ⟨by unfold chF; rw [if_neg (fun q => by have z := q.2.1; rw [ix_neg c9] at z; omega)], rfl, rfl, rfl⟩ hw
    · obtain ⟨po, hp', rfl⟩ := nI_of c9
      refine lv_iload_n S.1 S.2.1 dX1_change_12 rfl (lv_at hl 2 rfl) ?_
      refine lv_aload_n S.1 S.2.1 dX1_change_13 rfl (lv_at hl 0 rfl) ?_
      refine m_g0 S hw dX1_change_14 ?_
      refine lv_iload_n S.1 S.2.1 dX1_change_17 rfl (lv_at hl 1 rfl) ?_
      refine m_l0 S hw (by omega) dX1_change_18 ?_
      refine n_icmp_ge (tgt := 32) S (by omega) (by have := hI.1 j; omega) dX1_change_19 (by decide) (fun c19 => ?_) (fun c19 => ?_)
      · refine lv_iconst (v := nI 0) S.1 S.2.1 dX1_change_32 (by decide) ?_
        exact hret _ _ dX1_change_33 (nI_zn _ (by decide)) ⟨by unfold chF; rw [if_neg (fun q => by have z := q.2.1; rw [ix_in hj' hj, ix_nI hp'] at z; omega)], rfl, rfl, rfl⟩ hw
      · refine lv_iload_n S.1 S.2.1 dX1_change_22 rfl (lv_at hl 3 rfl) ?_
        refine lv_if_lt (tgt := 32) S.1 S.2.1 dX1_change_23 (by decide) (fun c23 => ?_) (fun c23 => ?_)
        · refine lv_iconst (v := nI 0) S.1 S.2.1 dX1_change_32 (by decide) ?_
          exact hret _ _ dX1_change_33 (nI_zn _ (by decide)) ⟨by unfold chF; rw [if_neg (fun q => by have z := q.2.2; rw [ix_neg c23] at z; omega)], rfl, rfl, rfl⟩ hw
        · obtain ⟨k, hk', rfl⟩ := nI_of c23
          refine lv_iload_n S.1 S.2.1 dX1_change_26 rfl (lv_at hl 3 rfl) ?_
          refine lv_bipush (v := nI 11) S.1 S.2.1 dX1_change_27 (by decide) ?_
          refine n_icmp_le (tgt := 34) S (by omega) (by omega) dX1_change_29 (by decide) (fun c29 => ?_) (fun c29 => ?_)
          · refine lv_aload_n S.1 S.2.1 dX1_change_34 rfl (lv_at hl 0 rfl) ?_
            refine m_g1 S hw dX1_change_35 ?_
            refine lv_bipush (v := nI 24) S.1 S.2.1 dX1_change_38 (by decide) ?_
            refine lv_iload_n S.1 S.2.1 dX1_change_40 rfl (lv_at hl 1 rfl) ?_
            refine n_imul S dX1_change_41 ?_
            refine lv_iload_n S.1 S.2.1 dX1_change_42 rfl (lv_at hl 2 rfl) ?_
            refine n_iadd S dX1_change_43 ?_
            refine lv_iload_n S.1 S.2.1 dX1_change_44 rfl (lv_at hl 3 rfl) ?_
            refine m_s1 S hw (by have := hI.1 j; omega) dX1_change_45 (fun u2 eu2 H locs hw => ?_)
            refine lv_iconst (v := nI 1) S.1 S.2.1 dX1_change_46 (by decide) ?_
            exact hret _ _ dX1_change_47 (nI_zn _ (by decide)) ⟨by unfold chF; rw [ix_in hj' hj, ix_in hp' c19, ix_in hk' (by omega), if_pos ⟨hj, c19, by omega⟩, eu2, gup_s], by rw [eu2, gup_n _ _ _ (by decide)], by rw [eu2, gup_n _ _ _ (by decide)], by rw [eu2, gup_n _ _ _ (by decide)]⟩ hw
          · refine lv_iconst (v := nI 0) S.1 S.2.1 dX1_change_32 (by decide) ?_
            exact hret _ _ dX1_change_33 (nI_zn _ (by decide)) ⟨by unfold chF; rw [if_neg (fun q => by have z := q.2.2; rw [ix_nI hk'] at z; omega)], rfl, rfl, rfl⟩ hw
set_option maxHeartbeats 4000000 in
theorem mM_erase (l : Launch) (D : va_G) (h : Nat → Nat) (d : Nat → ClassId) (u : gU) (a : Int32) : gMi l yX1_erase cX1_erase 2 .boolean (rk 1) D (mL h d) (mT d) [.ref (h 0), .int a] u (fun r u' => (r, u' 0) = erF (u 0) a ∧ u' 1 = u 1 ∧ u' 2 = u 2 ∧ u' 3 = u 3) := by
  refine gMi_of (by decide) (Nat.le_of_ble_eq_true rfl) ?_
  intro p e s m args below meth c A Q ls S hw hl hret
  have S : CallFix p m c cX1_erase 2 s args lw_all RX1 := S
  have hl : lv_has ls 2 [(0, .ref (h 0)), (1, .int a)] := hl
  refine lv_aload_n S.1 S.2.1 dX1_erase_0 rfl (lv_at hl 0 rfl) ?_
  refine lv_iload_n S.1 S.2.1 dX1_erase_1 rfl (lv_at hl 1 rfl) ?_
  refine g_calli (As := [.int a]) (rest := []) S hw (b := h 0) rfl rfl (mM_document l D h d u a) (cw_X1_X1_document S.2.2.2.2 ⟨by decide, by decide⟩) rfl hl.1 rfl (Nat.le_of_ble_eq_true rfl) dX1_erase_2 ⟨Nat.zero_le _, Nat.zero_le _⟩ (fun r1 u1 H locs hp1 hw => ?_)
  obtain ⟨rfl, rfl⟩ := hp1
  refine n_if_ne (tgt := 10) S (by exact bN_lt _) dX1_erase_5 (by decide) (fun c5 => ?_) (fun c5 => ?_)
  · obtain ⟨j, hj, rfl, hj'⟩ := ix_lt (bN_1 c5)
    refine lv_aload_n S.1 S.2.1 dX1_erase_10 rfl (lv_at hl 0 rfl) ?_
    refine m_g0 S hw dX1_erase_11 ?_
    refine lv_iload_n S.1 S.2.1 dX1_erase_14 rfl (lv_at hl 1 rfl) ?_
    refine lv_iconst (v := nI 0) S.1 S.2.1 dX1_erase_15 (by decide) ?_
    refine m_s0 S hw (by omega) dX1_erase_16 (fun u2 eu2 H locs hw => ?_)
    refine lv_iconst (v := nI 1) S.1 S.2.1 dX1_erase_17 (by decide) ?_
    exact hret _ _ dX1_erase_18 (nI_zn _ (by decide)) ⟨by unfold erF; rw [ix_in hj' hj, if_pos hj, eu2, gup_s], by rw [eu2, gup_n _ _ _ (by decide)], by rw [eu2, gup_n _ _ _ (by decide)], by rw [eu2, gup_n _ _ _ (by decide)]⟩ hw
  · refine lv_iconst (v := nI 0) S.1 S.2.1 dX1_erase_8 (by decide) ?_
    exact hret _ _ dX1_erase_9 (nI_zn _ (by decide)) ⟨by unfold erF; rw [if_neg (bN_0 c5)], rfl, rfl, rfl⟩ hw
set_option maxHeartbeats 4000000 in
theorem mM_length (l : Launch) (D : va_G) (h : Nat → Nat) (d : Nat → ClassId) (u : gU) (a : Int32) : gMi l yX1_length cX1_length 2 .int (rk 1) D (mL h d) (mT d) [.ref (h 0), .int a] u (fun r u' => r = leF (u 0) a ∧ u = u') := by
  refine gMi_of (by decide) (Nat.le_of_ble_eq_true rfl) ?_
  intro p e s m args below meth c A Q ls S hw hl hret
  have S : CallFix p m c cX1_length 2 s args lw_all RX1 := S
  have hl : lv_has ls 2 [(0, .ref (h 0)), (1, .int a)] := hl
  refine lv_aload_n S.1 S.2.1 dX1_length_0 rfl (lv_at hl 0 rfl) ?_
  refine lv_iload_n S.1 S.2.1 dX1_length_1 rfl (lv_at hl 1 rfl) ?_
  refine g_calli (As := [.int a]) (rest := []) S hw (b := h 0) rfl rfl (mM_document l D h d u a) (cw_X1_X1_document S.2.2.2.2 ⟨by decide, by decide⟩) rfl hl.1 rfl (Nat.le_of_ble_eq_true rfl) dX1_length_2 ⟨Nat.zero_le _, Nat.zero_le _⟩ (fun r1 u1 H locs hp1 hw => ?_)
  obtain ⟨rfl, rfl⟩ := hp1
  refine n_if_eq (tgt := 17) S (by exact bN_lt _) dX1_length_5 (by decide) (fun c5 => ?_) (fun c5 => ?_)
  · refine lv_iconst (v := (-1)) S.1 S.2.1 dX1_length_17 (by decide) ?_
    exact hret _ _ dX1_length_18 rfl (⟨by unfold leF; rw [if_neg (bN_0 c5)], rfl⟩) hw
  · obtain ⟨j, hj, rfl, hj'⟩ := ix_lt (bN_1 c5)
    refine lv_aload_n S.1 S.2.1 dX1_length_8 rfl (lv_at hl 0 rfl) ?_
    refine m_g0 S hw dX1_length_9 ?_
    refine lv_iload_n S.1 S.2.1 dX1_length_12 rfl (lv_at hl 1 rfl) ?_
    refine m_l0 S hw (by omega) dX1_length_13 ?_
    refine lv_goto (tgt := 18) S.1 S.2.1 dX1_length_14 (by decide) ?_
    exact hret _ _ dX1_length_18 rfl (⟨by unfold leF; rw [ix_in hj' hj, if_pos hj], rfl⟩) hw
set_option maxHeartbeats 4000000 in
theorem mM_unask (l : Launch) (D : va_G) (h : Nat → Nat) (d : Nat → ClassId) (u : gU) (hn0 : u 2 0 ≤ 12) : gMi l yX1_unask cX1_unask 1 .int (rk 0) D (mL h d) (mT d) [.ref (h 0)] u (fun r u' => (u 2 0 = 0 → r = -1 ∧ u = u') ∧ (0 < u 2 0 → r = nI (u 3 (u 2 0 - 1)) ∧ u' = gup u 2 0 (u 2 0 - 1))) := by
  refine gMi_of (by decide) (Nat.le_of_ble_eq_true rfl) ?_
  intro p e s m args below meth c A Q ls S hw hl hret
  have S : CallFix p m c cX1_unask 1 s args lw_all RX1 := S
  have hl : lv_has ls 1 [(0, .ref (h 0))] := hl
  refine lv_aload_n S.1 S.2.1 dX1_unask_0 rfl (lv_at hl 0 rfl) ?_
  refine m_g2 S hw dX1_unask_1 ?_
  refine n_if_ne (tgt := 9) S (by omega) dX1_unask_4 (by decide) (fun c4 => ?_) (fun c4 => ?_)
  · refine lv_aload_n S.1 S.2.1 dX1_unask_9 rfl (lv_at hl 0 rfl) ?_
    refine lv_dup S.1 S.2.1 dX1_unask_10 rfl ?_
    refine m_g2 S hw dX1_unask_11 ?_
    refine lv_iconst (v := nI 1) S.1 S.2.1 dX1_unask_14 (by decide) ?_
    refine n_isub S (by omega) dX1_unask_15 ?_
    refine m_p2 S hw dX1_unask_16 (fun u1 eu1 H locs hw => ?_)
    refine lv_aload_n S.1 S.2.1 dX1_unask_19 rfl (lv_at hl 0 rfl) ?_
    refine m_g3 S hw dX1_unask_20 ?_
    refine lv_aload_n S.1 S.2.1 dX1_unask_23 rfl (lv_at hl 0 rfl) ?_
    refine m_g2 S hw dX1_unask_24 ?_
    refine m_l3 S hw (by rw [eu1, gup_s, va_up_self]; omega) dX1_unask_27 ?_
    exact hret _ _ dX1_unask_28 rfl (⟨fun q => absurd q (by omega), fun _ => ⟨by rw [eu1, gup_s, va_up_self, gup_n _ _ _ (by decide)], eu1⟩⟩) hw
  · refine lv_iconst (v := (-1)) S.1 S.2.1 dX1_unask_7 (by decide) ?_
    exact hret _ _ dX1_unask_8 rfl (⟨fun _ => ⟨rfl, rfl⟩, fun q => absurd q (by omega)⟩) hw
set_option maxHeartbeats 4000000 in
theorem mM_hasTokens (l : Launch) (D : va_G) (h : Nat → Nat) (d : Nat → ClassId) (u : gU) (hn0 : u 2 0 ≤ 12) (ht : ∀ i, u 3 i < 24) : gMi l yX1_hasTokens cX1_hasTokens 3 .int (rk 0) D (mL h d) (mT d) [.ref (h 0)] u (fun r u' => r = nI (htf (u 3) (u 2 0)) ∧ u = u') := by
  refine gMi_of (by decide) (Nat.le_of_ble_eq_true rfl) ?_
  intro p e s m args below meth c A Q ls S hw hl hret
  have S : CallFix p m c cX1_hasTokens 3 s args lw_all RX1 := S
  have hl : lv_has ls 3 [(0, .ref (h 0))] := hl
  have lp : ∀ (n : Nat) (i v : Nat), (i ≤ u 2 0) → (u 2 0 + 1 ≤ i + n) → (v = htf (u 3) i) → ∀ (H : Heap) (locs : List Loc) (ls : Array Slot), mW D h d A s H locs u → lv_has ls 3 [(2, .int (nI i)), (1, .int (nI v)), (0, .ref (h 0))] → W p l e (rk 0) s m args below meth c H locs 0 0 Q (F0 m 4 ls []) := by
    intro n
    induction n with
    | zero =>
      intro i v hi hn hv
      exfalso; omega
    | succ n ih =>
      intro i v hi hn hv H locs ls hw hl
      refine lv_iload_n S.1 S.2.1 dX1_hasTokens_4 rfl (lv_at hl 0 rfl) ?_
      refine lv_aload_n S.1 S.2.1 dX1_hasTokens_5 rfl (lv_at hl 2 rfl) ?_
      refine m_g2 S hw dX1_hasTokens_6 ?_
      refine n_icmp_ge (tgt := 37) S (by omega) (by omega) dX1_hasTokens_9 (by decide) (fun c9 => ?_) (fun c9 => ?_)
      · refine lv_iload_n S.1 S.2.1 dX1_hasTokens_37 rfl (lv_at hl 1 rfl) ?_
        exact hret _ _ dX1_hasTokens_38 rfl (⟨by rw [hv, show i = u 2 0 by omega], rfl⟩) hw
      · refine lv_aload_n S.1 S.2.1 dX1_hasTokens_12 rfl (lv_at hl 2 rfl) ?_
        refine m_g3 S hw dX1_hasTokens_13 ?_
        refine lv_iload_n S.1 S.2.1 dX1_hasTokens_16 rfl (lv_at hl 0 rfl) ?_
        refine m_l3 S hw (by omega) dX1_hasTokens_17 ?_
        refine lv_bipush (v := nI 23) S.1 S.2.1 dX1_hasTokens_18 (by decide) ?_
        refine n_icmp_ne (tgt := 29) S (by have := ht i; omega) (by omega) dX1_hasTokens_20 (by decide) (fun c20 => ?_) (fun c20 => ?_)
        · refine lv_iload_n S.1 S.2.1 dX1_hasTokens_29 rfl (lv_at hl 1 rfl) ?_
          refine lv_istore_n (lv' := [(1, .int (nI v)), (2, .int (nI i)), (0, .ref (h 0))]) S.1 S.2.1 dX1_hasTokens_30 rfl hl (by decide) rfl (fun ls hl => ?_)
          refine n_iinc (k := 1) (lv' := [(2, .int (nI (i + 1))), (1, .int (nI v)), (0, .ref (h 0))]) S dX1_hasTokens_31 hl rfl (by decide) rfl (fun ls hl => ?_)
          refine lv_goto (tgt := 4) S.1 S.2.1 dX1_hasTokens_34 (by decide) ?_
          exact ih (i + 1) v (by omega) (by omega) (by rw [hv, htf, bN_f c20, Nat.add_zero]) _ _ _ hw (lv_sub hl [0, 1, 2] rfl)
        · refine lv_iload_n S.1 S.2.1 dX1_hasTokens_23 rfl (lv_at hl 1 rfl) ?_
          refine lv_iconst (v := nI 1) S.1 S.2.1 dX1_hasTokens_24 (by decide) ?_
          refine n_iadd S dX1_hasTokens_25 ?_
          refine lv_goto (tgt := 30) S.1 S.2.1 dX1_hasTokens_26 (by decide) ?_
          refine lv_istore_n (lv' := [(1, .int (nI (v + 1))), (2, .int (nI i)), (0, .ref (h 0))]) S.1 S.2.1 dX1_hasTokens_30 rfl hl (by decide) rfl (fun ls hl => ?_)
          refine n_iinc (k := 1) (lv' := [(2, .int (nI (i + 1))), (1, .int (nI (v + 1))), (0, .ref (h 0))]) S dX1_hasTokens_31 hl rfl (by decide) rfl (fun ls hl => ?_)
          refine lv_goto (tgt := 4) S.1 S.2.1 dX1_hasTokens_34 (by decide) ?_
          exact ih (i + 1) (v + 1) (by omega) (by omega) (by rw [hv, htf, bN_t c20]) _ _ _ hw (lv_sub hl [0, 1, 2] rfl)
  refine lv_iconst (v := nI 0) S.1 S.2.1 dX1_hasTokens_0 (by decide) ?_
  refine lv_istore_n (lv' := [(1, .int (nI 0)), (0, .ref (h 0))]) S.1 S.2.1 dX1_hasTokens_1 rfl hl (by decide) rfl (fun ls hl => ?_)
  refine lv_iconst (v := nI 0) S.1 S.2.1 dX1_hasTokens_2 (by decide) ?_
  refine lv_istore_n (lv' := [(2, .int (nI 0)), (1, .int (nI 0)), (0, .ref (h 0))]) S.1 S.2.1 dX1_hasTokens_3 rfl hl (by decide) rfl (fun ls hl => ?_)
  exact lp (u 2 0 + 1) 0 0 (by omega) (by omega) rfl _ _ _ hw (lv_sub hl [0, 1, 2] rfl)
set_option maxHeartbeats 4000000 in
theorem mM_then (l : Launch) (D : va_G) (h : Nat → Nat) (d : Nat → ClassId) (u : gU) (fr tt ds : Nat) (hfr : fr < 2 ^ 24) (htt : tt < 12) (hds : ds ≤ 4) : gMi l yX1_then cX1_then 6 .int (rk 0) D (mL h d) (mT d) [.ref (h 0), .int (nI fr), .int (nI tt), .int (nI ds)] u (fun r u' => r = nI (thf fr (fun b => u 4 (24 * tt + b)) ds (24 - ds)) ∧ u = u') := by
  refine gMi_of (by decide) (Nat.le_of_ble_eq_true rfl) ?_
  intro p e s m args below meth c A Q ls S hw hl hret
  have S : CallFix p m c cX1_then 6 s args lw_all RX1 := S
  have hl : lv_has ls 6 [(0, .ref (h 0)), (1, .int (nI fr)), (2, .int (nI tt)), (3, .int (nI ds))] := hl
  have lp : ∀ (n : Nat) (i v : Nat), (i + ds ≤ 24) → (25 ≤ i + n + ds) → (v = thf fr (fun b => u 4 (24 * tt + b)) ds i) → ∀ (H : Heap) (locs : List Loc) (ls : Array Slot), mW D h d A s H locs u → lv_has ls 6 [(5, .int (nI i)), (4, .int (nI v)), (0, .ref (h 0)), (1, .int (nI fr)), (2, .int (nI tt)), (3, .int (nI ds))] → W p l e (rk 0) s m args below meth c H locs 0 0 Q (F0 m 6 ls []) := by
    intro n
    induction n with
    | zero =>
      intro i v hi hn hv
      exfalso; omega
    | succ n ih =>
      intro i v hi hn hv H locs ls hw hl
      refine lv_iload S.1 S.2.1 dX1_then_6 (lv_at hl 0 rfl) ?_
      refine lv_iload_n S.1 S.2.1 dX1_then_8 rfl (lv_at hl 5 rfl) ?_
      refine n_iadd S dX1_then_9 ?_
      refine lv_bipush (v := nI 24) S.1 S.2.1 dX1_then_10 (by decide) ?_
      refine n_icmp_ge (tgt := 55) S (by omega) (by omega) dX1_then_12 (by decide) (fun c12 => ?_) (fun c12 => ?_)
      · refine lv_iload S.1 S.2.1 dX1_then_55 (lv_at hl 1 rfl) ?_
        exact hret _ _ dX1_then_57 rfl (⟨by rw [hv, show i = 24 - ds by omega], rfl⟩) hw
      · refine lv_iload_n S.1 S.2.1 dX1_then_15 rfl (lv_at hl 3 rfl) ?_
        refine lv_iload S.1 S.2.1 dX1_then_16 (lv_at hl 0 rfl) ?_
        refine n_ishr S (by omega) (by omega) dX1_then_18 ?_
        refine lv_iconst (v := nI 1) S.1 S.2.1 dX1_then_19 (by decide) ?_
        refine n_iand S dX1_then_20 ?_
        refine lv_iconst (v := nI 1) S.1 S.2.1 dX1_then_21 (by decide) ?_
        refine n_icmp_ne (tgt := 45) S (by have := bt_2 fr i; omega) (by omega) dX1_then_22 (by decide) (fun c22 => ?_) (fun c22 => ?_)
        · refine lv_iload S.1 S.2.1 dX1_then_45 (lv_at hl 1 rfl) ?_
          refine lv_istore (lv' := [(4, .int (nI v)), (5, .int (nI i)), (0, .ref (h 0)), (1, .int (nI fr)), (2, .int (nI tt)), (3, .int (nI ds))]) S.1 S.2.1 dX1_then_47 hl (by decide) rfl (fun ls hl => ?_)
          refine n_iinc (k := 1) (lv' := [(5, .int (nI (i + 1))), (4, .int (nI v)), (0, .ref (h 0)), (1, .int (nI fr)), (2, .int (nI tt)), (3, .int (nI ds))]) S dX1_then_49 hl rfl (by decide) rfl (fun ls hl => ?_)
          refine lv_goto (tgt := 6) S.1 S.2.1 dX1_then_52 (by decide) ?_
          exact ih (i + 1) v (by omega) (by omega) (by rw [hv, thf, if_neg (by rw [bt_n1 c22]; decide)]) _ _ _ hw (lv_sub hl [0, 1, 2, 3, 4, 5] rfl)
        · refine lv_iload S.1 S.2.1 dX1_then_25 (lv_at hl 1 rfl) ?_
          refine lv_aload_n S.1 S.2.1 dX1_then_27 rfl (lv_at hl 2 rfl) ?_
          refine m_g4 S hw dX1_then_28 ?_
          refine lv_bipush (v := nI 24) S.1 S.2.1 dX1_then_31 (by decide) ?_
          refine lv_iload_n S.1 S.2.1 dX1_then_33 rfl (lv_at hl 4 rfl) ?_
          refine n_imul S dX1_then_34 ?_
          refine lv_iload S.1 S.2.1 dX1_then_35 (lv_at hl 0 rfl) ?_
          refine n_iadd S dX1_then_37 ?_
          refine lv_iload_n S.1 S.2.1 dX1_then_38 rfl (lv_at hl 5 rfl) ?_
          refine n_iadd S dX1_then_39 ?_
          refine m_l4 S hw (by omega) dX1_then_40 ?_
          refine n_ior S dX1_then_41 ?_
          refine lv_goto (tgt := 47) S.1 S.2.1 dX1_then_42 (by decide) ?_
          refine lv_istore (lv' := [(4, .int (nI (v ||| (u 4 (((24 * tt) + i) + ds))))), (5, .int (nI i)), (0, .ref (h 0)), (1, .int (nI fr)), (2, .int (nI tt)), (3, .int (nI ds))]) S.1 S.2.1 dX1_then_47 hl (by decide) rfl (fun ls hl => ?_)
          refine n_iinc (k := 1) (lv' := [(5, .int (nI (i + 1))), (4, .int (nI (v ||| (u 4 (((24 * tt) + i) + ds))))), (0, .ref (h 0)), (1, .int (nI fr)), (2, .int (nI tt)), (3, .int (nI ds))]) S dX1_then_49 hl rfl (by decide) rfl (fun ls hl => ?_)
          refine lv_goto (tgt := 6) S.1 S.2.1 dX1_then_52 (by decide) ?_
          exact ih (i + 1) (v ||| (u 4 (((24 * tt) + i) + ds))) (by omega) (by omega) (by rw [hv, thf, if_pos (bt_e1 c22), Nat.add_assoc]) _ _ _ hw (lv_sub hl [0, 1, 2, 3, 4, 5] rfl)
  refine lv_iconst (v := nI 0) S.1 S.2.1 dX1_then_0 (by decide) ?_
  refine lv_istore (lv' := [(4, .int (nI 0)), (0, .ref (h 0)), (1, .int (nI fr)), (2, .int (nI tt)), (3, .int (nI ds))]) S.1 S.2.1 dX1_then_1 hl (by decide) rfl (fun ls hl => ?_)
  refine lv_iconst (v := nI 0) S.1 S.2.1 dX1_then_3 (by decide) ?_
  refine lv_istore (lv' := [(5, .int (nI 0)), (4, .int (nI 0)), (0, .ref (h 0)), (1, .int (nI fr)), (2, .int (nI tt)), (3, .int (nI ds))]) S.1 S.2.1 dX1_then_4 hl (by decide) rfl (fun ls hl => ?_)
  exact lp 25 0 0 (by omega) (by omega) rfl _ _ _ hw (lv_sub hl [0, 1, 2, 3, 4, 5] rfl)
theorem anf_ltb {N : Nat} {row : Nat → Nat} {K : Nat} (h : ∀ b, b < K → row b < 2 ^ N) : ∀ m, m ≤ K → anf row m < 2 ^ N
  | 0, _ => Nat.two_pow_pos N
  | m + 1, hm => Nat.or_lt_two_pow (anf_ltb h m (by omega)) (h m (by omega))
/-- masks below a height -/
theorem or_ones (m f : Nat) : ((1 <<< m) - 1) ||| ((2 <<< f) - 1) = (1 <<< max m (f + 1)) - 1 := by
  have e : 2 <<< f = 2 ^ (f + 1) := by rw [Nat.shiftLeft_eq, Nat.pow_succ, Nat.mul_comm]
  rw [e, Nat.one_shiftLeft, Nat.one_shiftLeft]
  refine Nat.eq_of_testBit_eq fun i => ?_
  rw [Nat.testBit_or, Nat.testBit_two_pow_sub_one, Nat.testBit_two_pow_sub_one, Nat.testBit_two_pow_sub_one, Bool.eq_iff_iff, Bool.or_eq_true, decide_eq_true_iff, decide_eq_true_iff, decide_eq_true_iff]
  omega
set_option maxHeartbeats 4000000 in
theorem mM_some (l : Launch) (D : va_G) (h : Nat → Nat) (d : Nat → ClassId) (u : gU) (sv : Nat) (hsv : sv < 12) (hE : ∀ b, b < 24 → (fun b => u 4 (24 * sv + b)) b < 2 ^ 24) : gMi l yX1_some cX1_some 4 .boolean (rk 0) D (mL h d) (mT d) [.ref (h 0), .int (nI sv)] u (fun r u' => r = nI (bN (anf (fun b => u 4 (24 * sv + b)) 24 ≠ 0)) ∧ u = u') := by
  refine gMi_of (by decide) (Nat.le_of_ble_eq_true rfl) ?_
  intro p e s m args below meth c A Q ls S hw hl hret
  have S : CallFix p m c cX1_some 4 s args lw_all RX1 := S
  have hl : lv_has ls 4 [(0, .ref (h 0)), (1, .int (nI sv))] := hl
  have lp : ∀ (n : Nat) (i v : Nat), (i ≤ 24) → (25 ≤ i + n) → (v = anf (fun b => u 4 (24 * sv + b)) i) → ∀ (H : Heap) (locs : List Loc) (ls : Array Slot), mW D h d A s H locs u → lv_has ls 4 [(3, .int (nI i)), (2, .int (nI v)), (0, .ref (h 0)), (1, .int (nI sv))] → W p l e (rk 0) s m args below meth c H locs 0 0 Q (F0 m 4 ls []) := by
    intro n
    induction n with
    | zero =>
      intro i v hi hn hv
      exfalso; omega
    | succ n ih =>
      intro i v hi hn hv H locs ls hw hl
      refine lv_iload_n S.1 S.2.1 dX1_some_4 rfl (lv_at hl 0 rfl) ?_
      refine lv_bipush (v := nI 24) S.1 S.2.1 dX1_some_5 (by decide) ?_
      refine n_icmp_ge (tgt := 30) S (by omega) (by omega) dX1_some_7 (by decide) (fun c7 => ?_) (fun c7 => ?_)
      · have hv2 : v = anf (fun b => u 4 (24 * sv + b)) 24 := by rw [hv, show i = 24 by omega]
        have hlt := anf_ltb hE 24 (Nat.le_refl _)
        refine lv_iload_n S.1 S.2.1 dX1_some_30 rfl (lv_at hl 1 rfl) ?_
        refine n_if_eq (tgt := 38) S (by omega) dX1_some_31 (by decide) (fun c31 => ?_) (fun c31 => ?_)
        · refine lv_iconst (v := nI 0) S.1 S.2.1 dX1_some_38 (by decide) ?_
          exact hret _ _ dX1_some_39 (nI_zn _ (by decide)) (⟨congrArg nI (by rw [← hv2]; exact (bN_f (fun q => q c31)).symm), rfl⟩) hw
        · refine lv_iconst (v := nI 1) S.1 S.2.1 dX1_some_34 (by decide) ?_
          refine lv_goto (tgt := 39) S.1 S.2.1 dX1_some_35 (by decide) ?_
          exact hret _ _ dX1_some_39 (nI_zn _ (by decide)) (⟨congrArg nI (by rw [← hv2]; exact (bN_t c31).symm), rfl⟩) hw
      · refine lv_iload_n S.1 S.2.1 dX1_some_10 rfl (lv_at hl 1 rfl) ?_
        refine lv_aload_n S.1 S.2.1 dX1_some_11 rfl (lv_at hl 2 rfl) ?_
        refine m_g4 S hw dX1_some_12 ?_
        refine lv_bipush (v := nI 24) S.1 S.2.1 dX1_some_15 (by decide) ?_
        refine lv_iload_n S.1 S.2.1 dX1_some_17 rfl (lv_at hl 3 rfl) ?_
        refine n_imul S dX1_some_18 ?_
        refine lv_iload_n S.1 S.2.1 dX1_some_19 rfl (lv_at hl 0 rfl) ?_
        refine n_iadd S dX1_some_20 ?_
        refine m_l4 S hw (by omega) dX1_some_21 ?_
        refine n_ior S dX1_some_22 ?_
        refine lv_istore_n (lv' := [(2, .int (nI (v ||| (u 4 ((24 * sv) + i))))), (3, .int (nI i)), (0, .ref (h 0)), (1, .int (nI sv))]) S.1 S.2.1 dX1_some_23 rfl hl (by decide) rfl (fun ls hl => ?_)
        refine n_iinc (k := 1) (lv' := [(3, .int (nI (i + 1))), (2, .int (nI (v ||| (u 4 ((24 * sv) + i))))), (0, .ref (h 0)), (1, .int (nI sv))]) S dX1_some_24 hl rfl (by decide) rfl (fun ls hl => ?_)
        refine lv_goto (tgt := 4) S.1 S.2.1 dX1_some_27 (by decide) ?_
        exact ih (i + 1) (v ||| (u 4 ((24 * sv) + i))) (by omega) (by omega) (by rw [hv, anf]) _ _ _ hw (lv_sub hl [0, 1, 2, 3] rfl)
  refine lv_iconst (v := nI 0) S.1 S.2.1 dX1_some_0 (by decide) ?_
  refine lv_istore_n (lv' := [(2, .int (nI 0)), (0, .ref (h 0)), (1, .int (nI sv))]) S.1 S.2.1 dX1_some_1 rfl hl (by decide) rfl (fun ls hl => ?_)
  refine lv_iconst (v := nI 0) S.1 S.2.1 dX1_some_2 (by decide) ?_
  refine lv_istore_n (lv' := [(3, .int (nI 0)), (2, .int (nI 0)), (0, .ref (h 0)), (1, .int (nI sv))]) S.1 S.2.1 dX1_some_3 rfl hl (by decide) rfl (fun ls hl => ?_)
  exact lp 25 0 0 (by omega) (by omega) rfl _ _ _ hw (lv_sub hl [0, 1, 2, 3] rfl)
set_option maxHeartbeats 4000000 in
theorem mM_within (l : Launch) (D : va_G) (h : Nat → Nat) (d : Nat → ClassId) (u : gU) (b tt : Nat) (hb : b < 24) (htt : tt < 12) (hE : ∀ c, c < 24 → u 4 (24 * tt + c) < 2 ^ 24) : gMi l yX1_within cX1_within 6 .int (rk 0) D (mL h d) (mT d) [.ref (h 0), .int (nI b), .int (nI tt)] u (fun r u' => r = nI ((1 <<< mxf (fun b => u 4 (24 * tt + b)) (b + 1)) - 1) ∧ u = u') := by
  refine gMi_of (by decide) (Nat.le_of_ble_eq_true rfl) ?_
  intro p e s m args below meth c A Q ls S hw hl hret
  have S : CallFix p m c cX1_within 6 s args lw_all RX1 := S
  have hl : lv_has ls 6 [(0, .ref (h 0)), (1, .int (nI b)), (2, .int (nI tt))] := hl
  have lp : ∀ (n : Nat) (i v : Nat), (i ≤ b + 1) → (b + 2 ≤ i + n) → (v = (1 <<< mxf (fun b => u 4 (24 * tt + b)) i) - 1) → ∀ (H : Heap) (locs : List Loc) (ls : Array Slot), mW D h d A s H locs u → lv_has ls 6 [(4, .int (nI i)), (3, .int (nI v)), (0, .ref (h 0)), (1, .int (nI b)), (2, .int (nI tt))] → W p l e (rk 0) s m args below meth c H locs 0 0 Q (F0 m 5 ls []) := by
    intro n
    induction n with
    | zero =>
      intro i v hi hn hv
      exfalso; omega
    | succ n ih =>
      intro i v hi hn hv H locs ls hw hl
      refine lv_iload S.1 S.2.1 dX1_within_5 (lv_at hl 0 rfl) ?_
      refine lv_iload_n S.1 S.2.1 dX1_within_7 rfl (lv_at hl 3 rfl) ?_
      refine n_icmp_gt (tgt := 67) S (by omega) (by omega) dX1_within_8 (by decide) (fun c8 => ?_) (fun c8 => ?_)
      · refine lv_iload_n S.1 S.2.1 dX1_within_67 rfl (lv_at hl 1 rfl) ?_
        exact hret _ _ dX1_within_68 rfl (⟨by rw [hv, show i = b + 1 by omega], rfl⟩) hw
      · refine lv_iconst (v := nI 0) S.1 S.2.1 dX1_within_11 (by decide) ?_
        refine lv_istore (lv' := [(5, .int (nI 0)), (4, .int (nI i)), (3, .int (nI v)), (0, .ref (h 0)), (1, .int (nI b)), (2, .int (nI tt))]) S.1 S.2.1 dX1_within_12 hl (by decide) rfl (fun ls hl => ?_)
        have lp2 : ∀ (n2 : Nat) (f y : Nat), (f ≤ 24) → (25 ≤ f + n2) → (y = (1 <<< max (mxf (fun b => u 4 (24 * tt + b)) i) (gtf (u 4 (24 * tt + i)) f)) - 1) → ∀ (H : Heap) (locs : List Loc) (ls : Array Slot), mW D h d A s H locs u → lv_has ls 6 [(5, .int (nI f)), (4, .int (nI i)), (3, .int (nI y)), (0, .ref (h 0)), (1, .int (nI b)), (2, .int (nI tt))] → W p l e (rk 0) s m args below meth c H locs 0 0 Q (F0 m 14 ls []) := by
          intro n2
          induction n2 with
          | zero =>
            intro f y hf hn2 hy
            exfalso; omega
          | succ n2 ih2 =>
            intro f y hf hn2 hy H locs ls hw hl
            refine lv_iload S.1 S.2.1 dX1_within_14 (lv_at hl 0 rfl) ?_
            refine lv_bipush (v := nI 24) S.1 S.2.1 dX1_within_16 (by decide) ?_
            refine n_icmp_ge (tgt := 61) S (by omega) (by omega) dX1_within_18 (by decide) (fun c18 => ?_) (fun c18 => ?_)
            · refine n_iinc (k := 1) (lv' := [(4, .int (nI (i + 1))), (5, .int (nI f)), (3, .int (nI y)), (0, .ref (h 0)), (1, .int (nI b)), (2, .int (nI tt))]) S dX1_within_61 hl rfl (by decide) rfl (fun ls hl => ?_)
              refine lv_goto (tgt := 5) S.1 S.2.1 dX1_within_64 (by decide) ?_
              exact ih (i + 1) y (by omega) (by omega) (by rw [hy, show f = 24 by omega]; rfl) _ _ _ hw (lv_sub hl [0, 2, 3, 4, 5] rfl)
            · refine lv_aload_n S.1 S.2.1 dX1_within_21 rfl (lv_at hl 3 rfl) ?_
              refine m_g4 S hw dX1_within_22 ?_
              refine lv_bipush (v := nI 24) S.1 S.2.1 dX1_within_25 (by decide) ?_
              refine lv_iload_n S.1 S.2.1 dX1_within_27 rfl (lv_at hl 5 rfl) ?_
              refine n_imul S dX1_within_28 ?_
              refine lv_iload S.1 S.2.1 dX1_within_29 (lv_at hl 1 rfl) ?_
              refine n_iadd S dX1_within_31 ?_
              refine m_l4 S hw (by omega) dX1_within_32 ?_
              refine lv_iload S.1 S.2.1 dX1_within_33 (lv_at hl 0 rfl) ?_
              refine n_ishr S (by have := hE i (by omega); omega) (by omega) dX1_within_35 ?_
              refine lv_iconst (v := nI 1) S.1 S.2.1 dX1_within_36 (by decide) ?_
              refine n_iand S dX1_within_37 ?_
              refine lv_iconst (v := nI 1) S.1 S.2.1 dX1_within_38 (by decide) ?_
              refine n_icmp_ne (tgt := 53) S (by have := bt_2 (u 4 (24 * tt + i)) f; omega) (by omega) dX1_within_39 (by decide) (fun c39 => ?_) (fun c39 => ?_)
              · refine lv_iload_n S.1 S.2.1 dX1_within_53 rfl (lv_at hl 2 rfl) ?_
                refine lv_istore_n (lv' := [(3, .int (nI y)), (5, .int (nI f)), (4, .int (nI i)), (0, .ref (h 0)), (1, .int (nI b)), (2, .int (nI tt))]) S.1 S.2.1 dX1_within_54 rfl hl (by decide) rfl (fun ls hl => ?_)
                refine n_iinc (k := 1) (lv' := [(5, .int (nI (f + 1))), (3, .int (nI y)), (4, .int (nI i)), (0, .ref (h 0)), (1, .int (nI b)), (2, .int (nI tt))]) S dX1_within_55 hl rfl (by decide) rfl (fun ls hl => ?_)
                refine lv_goto (tgt := 14) S.1 S.2.1 dX1_within_58 (by decide) ?_
                exact ih2 (f + 1) y (by omega) (by omega) (by rw [hy, gtf, if_neg (by rw [bt_n1 c39]; decide)]) _ _ _ hw (lv_sub hl [0, 2, 1, 3, 4, 5] rfl)
              · refine lv_iload_n S.1 S.2.1 dX1_within_42 rfl (lv_at hl 2 rfl) ?_
                refine lv_iconst (v := nI 2) S.1 S.2.1 dX1_within_43 (by decide) ?_
                refine lv_iload S.1 S.2.1 dX1_within_44 (lv_at hl 0 rfl) ?_
                refine n_ishl S (by omega) dX1_within_46 ?_
                refine lv_iconst (v := nI 1) S.1 S.2.1 dX1_within_47 (by decide) ?_
                refine n_isub S (by rw [Nat.shiftLeft_eq]; have := Nat.two_pow_pos f; omega) dX1_within_48 ?_
                refine n_ior S dX1_within_49 ?_
                refine lv_goto (tgt := 54) S.1 S.2.1 dX1_within_50 (by decide) ?_
                refine lv_istore_n (lv' := [(3, .int (nI (y ||| ((2 <<< f) - 1)))), (5, .int (nI f)), (4, .int (nI i)), (0, .ref (h 0)), (1, .int (nI b)), (2, .int (nI tt))]) S.1 S.2.1 dX1_within_54 rfl hl (by decide) rfl (fun ls hl => ?_)
                refine n_iinc (k := 1) (lv' := [(5, .int (nI (f + 1))), (3, .int (nI (y ||| ((2 <<< f) - 1)))), (4, .int (nI i)), (0, .ref (h 0)), (1, .int (nI b)), (2, .int (nI tt))]) S dX1_within_55 hl rfl (by decide) rfl (fun ls hl => ?_)
                refine lv_goto (tgt := 14) S.1 S.2.1 dX1_within_58 (by decide) ?_
                exact ih2 (f + 1) (y ||| ((2 <<< f) - 1)) (by omega) (by omega) (by rw [hy, or_ones, gtf, if_pos (bt_e1 c39)]; exact congrArg (fun z => 1 <<< z - 1) (by have := gtf_le (u 4 (24 * tt + i)) f; omega)) _ _ _ hw (lv_sub hl [0, 2, 1, 3, 4, 5] rfl)
        exact lp2 25 0 v (by omega) (by omega) (by rw [hv]; exact congrArg (fun z => 1 <<< z - 1) (Nat.max_eq_left (Nat.zero_le _)).symm) _ _ _ hw (lv_sub hl [0, 1, 2, 3, 4, 5] rfl)
  refine lv_iconst (v := nI 0) S.1 S.2.1 dX1_within_0 (by decide) ?_
  refine lv_istore_n (lv' := [(3, .int (nI 0)), (0, .ref (h 0)), (1, .int (nI b)), (2, .int (nI tt))]) S.1 S.2.1 dX1_within_1 rfl hl (by decide) rfl (fun ls hl => ?_)
  refine lv_iconst (v := nI 0) S.1 S.2.1 dX1_within_2 (by decide) ?_
  refine lv_istore (lv' := [(4, .int (nI 0)), (3, .int (nI 0)), (0, .ref (h 0)), (1, .int (nI b)), (2, .int (nI tt))]) S.1 S.2.1 dX1_within_3 hl (by decide) rfl (fun ls hl => ?_)
  exact lp (b + 2) 0 0 (by omega) (by omega) rfl _ _ _ hw (lv_sub hl [0, 1, 2, 3, 4] rfl)
def sav (z x : Nat → Nat) (dd tk : Nat) (r1 r2 : Nat → Nat) (b : Nat) : Nat := if tk < 12 then (if b < z dd ∧ x (24 * dd + b) = tk then 1 <<< b else 0) else cbv tk r1 r2 b
set_option maxHeartbeats 4000000 in
theorem mM_spansAt (l : Launch) (D : va_G) (h : Nat → Nat) (d : Nat → ClassId) (u : gU) (tk sv tv dd b : Nat) (hI : mI u) (htk : tk ≤ 18) (hdd : dd < 6) (hb : b < 24) (hs : 12 ≤ tk → sv < 12 ∧ tv < 12) (hE1 : 12 ≤ tk → ∀ c, c < 24 → u 4 (24 * sv + c) < 2 ^ 24) (hE2 : 12 ≤ tk → ∀ c, c < 24 → u 4 (24 * tv + c) < 2 ^ 24) : gMi l yX1_spansAt cX1_spansAt 7 .int (rk 1) D (mL h d) (mT d) [.ref (h 0), .int (nI tk), .int (nI sv), .int (nI tv), .int (nI dd), .int (nI b)] u (fun r u' => r = nI (sav (u 0) (u 1) dd tk (fun b => u 4 (24 * sv + b)) (fun b => u 4 (24 * tv + b)) b) ∧ u = u') := by
  refine gMi_of (by decide) (Nat.le_of_ble_eq_true rfl) ?_
  intro p e s m args below meth c A Q ls S hw hl hret
  have S : CallFix p m c cX1_spansAt 7 s args lw_all RX1 := S
  have hl : lv_has ls 7 [(0, .ref (h 0)), (1, .int (nI tk)), (2, .int (nI sv)), (3, .int (nI tv)), (4, .int (nI dd)), (5, .int (nI b))] := hl
  refine lv_iload_n S.1 S.2.1 dX1_spansAt_0 rfl (lv_at hl 1 rfl) ?_
  refine lv_bipush (v := nI 11) S.1 S.2.1 dX1_spansAt_1 (by decide) ?_
  refine n_icmp_gt (tgt := 44) S (by omega) (by omega) dX1_spansAt_3 (by decide) (fun c3 => ?_) (fun c3 => ?_)
  · refine lv_aload_n S.1 S.2.1 dX1_spansAt_44 rfl (lv_at hl 0 rfl) ?_
    refine m_g4 S hw dX1_spansAt_45 ?_
    refine lv_bipush (v := nI 24) S.1 S.2.1 dX1_spansAt_48 (by decide) ?_
    refine lv_iload_n S.1 S.2.1 dX1_spansAt_50 rfl (lv_at hl 2 rfl) ?_
    refine n_imul S dX1_spansAt_51 ?_
    refine lv_iload S.1 S.2.1 dX1_spansAt_52 (lv_at hl 5 rfl) ?_
    refine n_iadd S dX1_spansAt_54 ?_
    refine m_l4 S hw (by have := hs (by omega); omega) dX1_spansAt_55 ?_
    refine lv_istore (lv' := [(6, .int (nI (u 4 ((24 * sv) + b)))), (0, .ref (h 0)), (1, .int (nI tk)), (2, .int (nI sv)), (3, .int (nI tv)), (4, .int (nI dd)), (5, .int (nI b))]) S.1 S.2.1 dX1_spansAt_56 hl (by decide) rfl (fun ls hl => ?_)
    refine lv_iload_n S.1 S.2.1 dX1_spansAt_58 rfl (lv_at hl 2 rfl) ?_
    refine lv_bipush (v := nI 12) S.1 S.2.1 dX1_spansAt_59 (by decide) ?_
    refine n_icmp_ne (tgt := 80) S (by omega) (by omega) dX1_spansAt_61 (by decide) (fun c61 => ?_) (fun c61 => ?_)
    · refine lv_iload_n S.1 S.2.1 dX1_spansAt_80 rfl (lv_at hl 2 rfl) ?_
      refine lv_bipush (v := nI 18) S.1 S.2.1 dX1_spansAt_81 (by decide) ?_
      refine n_icmp_ne (tgt := 99) S (by omega) (by omega) dX1_spansAt_83 (by decide) (fun c83 => ?_) (fun c83 => ?_)
      · refine lv_aload_n S.1 S.2.1 dX1_spansAt_99 rfl (lv_at hl 1 rfl) ?_
        refine lv_iload S.1 S.2.1 dX1_spansAt_100 (lv_at hl 0 rfl) ?_
        refine lv_iload_n S.1 S.2.1 dX1_spansAt_102 rfl (lv_at hl 4 rfl) ?_
        refine lv_iload_n S.1 S.2.1 dX1_spansAt_103 rfl (lv_at hl 2 rfl) ?_
        refine lv_bipush (v := nI 13) S.1 S.2.1 dX1_spansAt_104 (by decide) ?_
        refine n_isub S (by omega) dX1_spansAt_106 ?_
        refine g_calli (As := [.int (nI (u 4 ((24 * sv) + b))), .int (nI tv), .int (nI (tk - 13))]) (rest := []) S hw (b := h 0) rfl rfl (mM_then l D h d u (u 4 (24 * sv + b)) tv (tk - 13) (hE1 (by omega) b hb) (hs (by omega)).2 (by omega)) (cw_X1_X1_then S.2.2.2.2 ⟨by decide, by decide⟩) rfl hl.1 rfl (Nat.le_of_ble_eq_true rfl) dX1_spansAt_107 ⟨Nat.zero_le _, Nat.zero_le _⟩ (fun r1 u1 H locs hp1 hw => ?_)
        obtain ⟨rfl, rfl⟩ := hp1
        exact hret _ _ dX1_spansAt_110 rfl ⟨congrArg nI (by unfold sav; rw [if_neg (by omega)]; unfold cbv; rw [if_neg c61, if_neg c83]), rfl⟩ hw
      · refine lv_iload S.1 S.2.1 dX1_spansAt_86 (lv_at hl 0 rfl) ?_
        refine lv_aload_n S.1 S.2.1 dX1_spansAt_88 rfl (lv_at hl 1 rfl) ?_
        refine lv_iload S.1 S.2.1 dX1_spansAt_89 (lv_at hl 6 rfl) ?_
        refine lv_iload_n S.1 S.2.1 dX1_spansAt_91 rfl (lv_at hl 4 rfl) ?_
        refine g_calli (As := [.int (nI b), .int (nI tv)]) (rest := [.int (nI (u 4 ((24 * sv) + b)))]) S hw (b := h 0) rfl rfl (mM_within l D h d u b tv hb (hs (by omega)).2 (hE2 (by omega))) (cw_X1_X1_within S.2.2.2.2 ⟨by decide, by decide⟩) rfl hl.1 rfl (Nat.le_of_ble_eq_true rfl) dX1_spansAt_92 ⟨Nat.zero_le _, Nat.zero_le _⟩ (fun r2 u2 H locs hp2 hw => ?_)
        obtain ⟨rfl, rfl⟩ := hp2
        refine n_iand S dX1_spansAt_95 ?_
        refine lv_goto (tgt := 110) S.1 S.2.1 dX1_spansAt_96 (by decide) ?_
        exact hret _ _ dX1_spansAt_110 rfl ⟨congrArg nI (by unfold sav; rw [if_neg (by omega)]; unfold cbv; rw [if_neg c61, if_pos c83]), rfl⟩ hw
    · refine lv_iload S.1 S.2.1 dX1_spansAt_64 (lv_at hl 0 rfl) ?_
      refine lv_aload_n S.1 S.2.1 dX1_spansAt_66 rfl (lv_at hl 1 rfl) ?_
      refine m_g4 S hw dX1_spansAt_67 ?_
      refine lv_bipush (v := nI 24) S.1 S.2.1 dX1_spansAt_70 (by decide) ?_
      refine lv_iload_n S.1 S.2.1 dX1_spansAt_72 rfl (lv_at hl 4 rfl) ?_
      refine n_imul S dX1_spansAt_73 ?_
      refine lv_iload S.1 S.2.1 dX1_spansAt_74 (lv_at hl 6 rfl) ?_
      refine n_iadd S dX1_spansAt_76 ?_
      refine m_l4 S hw (by have := hs (by omega); omega) dX1_spansAt_77 ?_
      refine n_ior S dX1_spansAt_78 ?_
      exact hret _ _ dX1_spansAt_79 rfl ⟨congrArg nI (by unfold sav; rw [if_neg (by omega)]; unfold cbv; rw [if_pos c61]), rfl⟩ hw
  · refine lv_iload S.1 S.2.1 dX1_spansAt_6 (lv_at hl 5 rfl) ?_
    refine lv_aload_n S.1 S.2.1 dX1_spansAt_8 rfl (lv_at hl 0 rfl) ?_
    refine m_g0 S hw dX1_spansAt_9 ?_
    refine lv_iload S.1 S.2.1 dX1_spansAt_12 (lv_at hl 4 rfl) ?_
    refine m_l0 S hw (by omega) dX1_spansAt_14 ?_
    refine n_icmp_ge (tgt := 42) S (by omega) (by have := hI.1 dd; omega) dX1_spansAt_15 (by decide) (fun c15 => ?_) (fun c15 => ?_)
    · refine lv_iconst (v := nI 0) S.1 S.2.1 dX1_spansAt_42 (by decide) ?_
      exact hret _ _ dX1_spansAt_43 rfl ⟨congrArg nI (by unfold sav; rw [if_pos (by omega), if_neg (by omega)]), rfl⟩ hw
    · refine lv_aload_n S.1 S.2.1 dX1_spansAt_18 rfl (lv_at hl 0 rfl) ?_
      refine m_g1 S hw dX1_spansAt_19 ?_
      refine lv_bipush (v := nI 24) S.1 S.2.1 dX1_spansAt_22 (by decide) ?_
      refine lv_iload S.1 S.2.1 dX1_spansAt_24 (lv_at hl 4 rfl) ?_
      refine n_imul S dX1_spansAt_26 ?_
      refine lv_iload S.1 S.2.1 dX1_spansAt_27 (lv_at hl 5 rfl) ?_
      refine n_iadd S dX1_spansAt_29 ?_
      refine m_l1 S hw (by omega) dX1_spansAt_30 ?_
      refine lv_iload_n S.1 S.2.1 dX1_spansAt_31 rfl (lv_at hl 1 rfl) ?_
      refine n_icmp_ne (tgt := 42) S (by have := hI.2.1 (24 * dd + b); omega) (by omega) dX1_spansAt_32 (by decide) (fun c32 => ?_) (fun c32 => ?_)
      · refine lv_iconst (v := nI 0) S.1 S.2.1 dX1_spansAt_42 (by decide) ?_
        exact hret _ _ dX1_spansAt_43 rfl ⟨congrArg nI (by unfold sav; rw [if_pos (by omega), if_neg (fun q => c32 q.2)]), rfl⟩ hw
      · refine lv_iconst (v := nI 1) S.1 S.2.1 dX1_spansAt_35 (by decide) ?_
        refine lv_iload S.1 S.2.1 dX1_spansAt_36 (lv_at hl 5 rfl) ?_
        refine n_ishl S (by omega) dX1_spansAt_38 ?_
        refine lv_goto (tgt := 43) S.1 S.2.1 dX1_spansAt_39 (by decide) ?_
        exact hret _ _ dX1_spansAt_43 rfl ⟨congrArg nI (by unfold sav; rw [if_pos (by omega), if_pos ⟨c15, c32⟩]), rfl⟩ hw
end
section
/-! the query of PhraseIndexModel, printed by gen/mq.py -/
set_option maxRecDepth 100000
/-- what must come next -/
def duF (t : Nat → Nat) (n : Nat) : Nat := if nd t n = 0 then 0 else pl t n (nd t n - 1)
theorem duF_3 (t : Nat → Nat) (n : Nat) : duF t n < 3 := by
  unfold duF
  have := pl_12 t n (nd t n - 1)
  split <;> omega
theorem duF_0 (t : Nat → Nat) (n : Nat) : duF t n = 0 ↔ nd t n = 0 := by
  unfold duF
  have := pl_12 t n (nd t n - 1)
  by_cases c : nd t n = 0
  · rw [if_pos c]; exact ⟨fun _ => c, fun _ => rfl⟩
  · rw [if_neg c]; exact ⟨fun q => by omega, fun q => absurd q c⟩
set_option maxHeartbeats 4000000 in
theorem mM_due (l : Launch) (D : va_G) (h : Nat → Nat) (d : Nat → ClassId) (u : gU) (hq : qI (u 3) (u 2 0)) : gMi l yX1_due cX1_due 5 .int (rk 1) D (mL h d) (mT d) [.ref (h 0)] u (fun r u' => r = nI (duF (u 3) (u 2 0)) ∧ ∀ a, a ≠ 6 → u' a = u a) := by
  refine gMi_of (by decide) (Nat.le_of_ble_eq_true rfl) ?_
  intro p e s m args below meth c A Q ls S hw hl hret
  have S : CallFix p m c cX1_due 5 s args lw_all RX1 := S
  have hl : lv_has ls 5 [(0, .ref (h 0))] := hl
  refine lv_iconst (v := nI 1) S.1 S.2.1 dX1_due_0 (by decide) ?_
  refine lv_istore_n (lv' := [(1, .int (nI 1)), (0, .ref (h 0))]) S.1 S.2.1 dX1_due_1 rfl hl (by decide) rfl (fun ls hl => ?_)
  refine lv_aload_n S.1 S.2.1 dX1_due_2 rfl (lv_at hl 1 rfl) ?_
  refine m_g6 S hw dX1_due_3 ?_
  refine lv_iconst (v := nI 0) S.1 S.2.1 dX1_due_6 (by decide) ?_
  refine lv_iconst (v := nI 1) S.1 S.2.1 dX1_due_7 (by decide) ?_
  refine m_s6 S hw (by omega) dX1_due_8 (fun u1 eu1 H locs hw => ?_)
  refine lv_iconst (v := nI 0) S.1 S.2.1 dX1_due_9 (by decide) ?_
  refine lv_istore_n (lv' := [(2, .int (nI 0)), (1, .int (nI 1)), (0, .ref (h 0))]) S.1 S.2.1 dX1_due_10 rfl hl (by decide) rfl (fun ls hl => ?_)
  have lp : ∀ (n : Nat) (k : Nat) (uu : gU), (k ≤ u 2 0) → (u 2 0 + 1 ≤ k + n) → (∀ a, a ≠ 6 → uu a = u a) → (∀ p, p < nd (u 3) k → uu 6 p = pl (u 3) k p) → ∀ (H : Heap) (locs : List Loc) (ls : Array Slot), mW D h d A s H locs uu → lv_has ls 5 [(2, .int (nI k)), (1, .int (nI (nd (u 3) k))), (0, .ref (h 0))] → W p l e (rk 1) s m args below meth c H locs 0 0 Q (F0 m 11 ls []) := by
    intro n
    induction n with
    | zero =>
      intro k uu hk hn hf hp6
      exfalso; omega
    | succ n ih =>
      intro k uu hk hn hf hp6 H locs ls hw hl
      have h2 : uu 2 0 = u 2 0 := by rw [hf 2 (by decide)]
      have h3 : uu 3 = u 3 := hf 3 (by decide)
      have hq1 := hq.1
      have hle := nd_le (t := u 3) k
      have h3k : uu 3 k < 24 := by rw [h3]; exact hq.2.1 k
      have har := ar_le (uu 3 k)
      refine lv_iload_n S.1 S.2.1 dX1_due_11 rfl (lv_at hl 0 rfl) ?_
      refine lv_aload_n S.1 S.2.1 dX1_due_12 rfl (lv_at hl 2 rfl) ?_
      refine m_g2 S hw dX1_due_13 ?_
      refine n_icmp_ge (tgt := 94) S (by omega) (by omega) dX1_due_16 (by decide) (fun c16 => ?_) (fun c16 => ?_)
      · have hkn : k = u 2 0 := by omega
        refine lv_iload_n S.1 S.2.1 dX1_due_94 rfl (lv_at hl 1 rfl) ?_
        refine n_if_ne (tgt := 102) S (by omega) dX1_due_95 (by decide) (fun c95 => ?_) (fun c95 => ?_)
        · refine lv_aload_n S.1 S.2.1 dX1_due_102 rfl (lv_at hl 2 rfl) ?_
          refine m_g6 S hw dX1_due_103 ?_
          refine lv_iload_n S.1 S.2.1 dX1_due_106 rfl (lv_at hl 1 rfl) ?_
          refine lv_iconst (v := nI 1) S.1 S.2.1 dX1_due_107 (by decide) ?_
          refine n_isub S (by omega) dX1_due_108 ?_
          refine m_l6 S hw (by omega) dX1_due_109 ?_
          exact hret _ _ dX1_due_110 rfl ⟨congrArg nI (by unfold duF; rw [← hkn, if_neg c95]; exact hp6 _ (by omega)), hf⟩ hw
        · refine lv_iconst (v := nI 0) S.1 S.2.1 dX1_due_98 (by decide) ?_
          refine lv_goto (tgt := 110) S.1 S.2.1 dX1_due_99 (by decide) ?_
          exact hret _ _ dX1_due_110 rfl ⟨congrArg nI (by unfold duF; rw [← hkn, if_pos c95]), hf⟩ hw
      · refine lv_iload_n S.1 S.2.1 dX1_due_19 rfl (lv_at hl 1 rfl) ?_
        refine n_if_le (tgt := 94) S (by omega) dX1_due_20 (by decide) (fun c20 => ?_) (fun c20 => ?_)
        · have := (hq.2.2 k (by omega)).1
          omega
        · refine n_iincm (by omega) (k := 1) (lv' := [(1, .int (nI ((nd (u 3) k) - 1))), (2, .int (nI k)), (0, .ref (h 0))]) S dX1_due_23 hl rfl (by decide) rfl (fun ls hl => ?_)
          refine lv_aload_n S.1 S.2.1 dX1_due_26 rfl (lv_at hl 2 rfl) ?_
          refine lv_aload_n S.1 S.2.1 dX1_due_27 rfl (lv_at hl 2 rfl) ?_
          refine m_g3 S hw dX1_due_28 ?_
          refine lv_iload_n S.1 S.2.1 dX1_due_31 rfl (lv_at hl 1 rfl) ?_
          refine m_l3 S hw (by omega) dX1_due_32 ?_
          refine g_calli (As := [.int (nI (uu 3 k))]) (rest := []) S hw (b := h 0) rfl rfl (mM_parts l D h d uu (uu 3 k) h3k) (cw_X1_X1_parts S.2.2.2.2 ⟨by decide, by decide⟩) rfl hl.1 rfl (Nat.le_of_ble_eq_true rfl) dX1_due_33 ⟨Nat.zero_le _, Nat.zero_le _⟩ (fun r2 u2 H locs hp2 hw => ?_)
          obtain ⟨rfl, rfl⟩ := hp2
          refine lv_istore_n (lv' := [(3, .int (nI (ar (uu 3 k)))), (1, .int (nI ((nd (u 3) k) - 1))), (2, .int (nI k)), (0, .ref (h 0))]) S.1 S.2.1 dX1_due_36 rfl hl (by decide) rfl (fun ls hl => ?_)
          refine lv_iconst (v := nI 0) S.1 S.2.1 dX1_due_37 (by decide) ?_
          refine lv_istore (lv' := [(4, .int (nI 0)), (3, .int (nI (ar (uu 3 k)))), (1, .int (nI ((nd (u 3) k) - 1))), (2, .int (nI k)), (0, .ref (h 0))]) S.1 S.2.1 dX1_due_38 hl (by decide) rfl (fun ls hl => ?_)
          rw [← Nat.add_zero (nd (u 3) k - 1)] at hl
          have lp2 : ∀ (n2 : Nat) (i : Nat) (vv : gU), (i ≤ ar (uu 3 k)) → (ar (uu 3 k) + 1 ≤ i + n2) → (∀ a, a ≠ 6 → vv a = u a) → (∀ p, p < nd (u 3) k - 1 + i → vv 6 p = pl (u 3) (k + 1) p) → ∀ (H : Heap) (locs : List Loc) (ls : Array Slot), mW D h d A s H locs vv → lv_has ls 5 [(4, .int (nI i)), (3, .int (nI (ar (uu 3 k)))), (1, .int (nI (nd (u 3) k - 1 + i))), (2, .int (nI k)), (0, .ref (h 0))] → W p l e (rk 1) s m args below meth c H locs 0 0 Q (F0 m 40 ls []) := by
            intro n2
            induction n2 with
            | zero =>
              intro i vv hi hn2 hg hm
              exfalso; omega
            | succ n2 ih2 =>
              intro i vv hi hn2 hg hm H locs ls hw hl
              have h3' : vv 3 = u 3 := hg 3 (by decide)
              have h3k' : vv 3 k = u 3 k := by rw [h3']
              have h3k'' : uu 3 k = u 3 k := by rw [h3]
              have hark : ar (uu 3 k) = ar (u 3 k) := by rw [h3k'']
              refine lv_iload S.1 S.2.1 dX1_due_40 (lv_at hl 0 rfl) ?_
              refine lv_iload_n S.1 S.2.1 dX1_due_42 rfl (lv_at hl 1 rfl) ?_
              refine n_icmp_ge (tgt := 88) S (by omega) (by omega) dX1_due_43 (by decide) (fun c43 => ?_) (fun c43 => ?_)
              · have hia : nd (u 3) k - 1 + i = nd (u 3) (k + 1) := by rw [nd_s, ← h3k'']; omega
                rw [hia] at hl
                refine n_iinc (k := 3) (lv' := [(2, .int (nI (k + 1))), (4, .int (nI i)), (3, .int (nI (ar (uu 3 k)))), (1, .int (nI (nd (u 3) (k + 1)))), (0, .ref (h 0))]) S dX1_due_88 hl rfl (by decide) rfl (fun ls hl => ?_)
                refine lv_goto (tgt := 11) S.1 S.2.1 dX1_due_91 (by decide) ?_
                exact ih (k + 1) vv (by omega) (by omega) hg (fun p hp => hm p (by rw [nd_s, ← h3k''] at hp; omega)) _ _ _ hw (lv_sub hl [0, 3, 4] rfl)
              · refine lv_aload_n S.1 S.2.1 dX1_due_46 rfl (lv_at hl 4 rfl) ?_
                refine m_g6 S hw dX1_due_47 ?_
                refine lv_iload_n S.1 S.2.1 dX1_due_50 rfl (lv_at hl 2 rfl) ?_
                refine lv_aload_n S.1 S.2.1 dX1_due_51 rfl (lv_at hl 4 rfl) ?_
                refine m_g3 S hw dX1_due_52 ?_
                refine lv_iload_n S.1 S.2.1 dX1_due_55 rfl (lv_at hl 3 rfl) ?_
                refine m_l3 S hw (by omega) dX1_due_56 ?_
                refine lv_bipush (v := nI 20) S.1 S.2.1 dX1_due_57 (by decide) ?_
                refine n_icmp_lt (tgt := 77) S (by omega) (by omega) dX1_due_59 (by decide) (fun c59 => ?_) (fun c59 => ?_)
                · refine lv_iconst (v := nI 2) S.1 S.2.1 dX1_due_77 (by decide) ?_
                  refine m_s6 S hw (by omega) dX1_due_78 (fun u3 eu3 H locs hw => ?_)
                  refine n_iinc (k := 2) (lv' := [(1, .int (nI (nd (u 3) k - 1 + i + 1))), (4, .int (nI i)), (3, .int (nI (ar (uu 3 k)))), (2, .int (nI k)), (0, .ref (h 0))]) S dX1_due_79 hl rfl (by decide) rfl (fun ls hl => ?_)
                  refine n_iinc (k := 1) (lv' := [(4, .int (nI (i + 1))), (1, .int (nI (nd (u 3) k - 1 + i + 1))), (3, .int (nI (ar (uu 3 k)))), (2, .int (nI k)), (0, .ref (h 0))]) S dX1_due_82 hl rfl (by decide) rfl (fun ls hl => ?_)
                  refine lv_goto (tgt := 40) S.1 S.2.1 dX1_due_85 (by decide) ?_
                  exact ih2 (i + 1) u3 (by omega) (by omega) (fun a ha => by rw [eu3, gup_n _ _ _ ha]; exact hg a ha) (fun p hp => by rw [eu3, gup_s]; by_cases c : p = nd (u 3) k - 1 + i; (rw [c, va_up_self, pl_s, if_pos (by omega)]; exact (show kd (u 3 k) = 2 from by unfold kd; rw [if_neg (by omega)]).symm); (rw [va_up_ne _ _ c]; exact hm p (by omega))) _ _ _ hw (lv_sub hl [0, 2, 1, 3, 4] rfl)
                · refine lv_aload_n S.1 S.2.1 dX1_due_62 rfl (lv_at hl 4 rfl) ?_
                  refine m_g3 S hw dX1_due_63 ?_
                  refine lv_iload_n S.1 S.2.1 dX1_due_66 rfl (lv_at hl 3 rfl) ?_
                  refine m_l3 S hw (by omega) dX1_due_67 ?_
                  refine lv_bipush (v := nI 22) S.1 S.2.1 dX1_due_68 (by decide) ?_
                  refine n_icmp_gt (tgt := 77) S (by omega) (by omega) dX1_due_70 (by decide) (fun c70 => ?_) (fun c70 => ?_)
                  · refine lv_iconst (v := nI 2) S.1 S.2.1 dX1_due_77 (by decide) ?_
                    refine m_s6 S hw (by omega) dX1_due_78 (fun u4 eu4 H locs hw => ?_)
                    refine n_iinc (k := 2) (lv' := [(1, .int (nI (nd (u 3) k - 1 + i + 1))), (4, .int (nI i)), (3, .int (nI (ar (uu 3 k)))), (2, .int (nI k)), (0, .ref (h 0))]) S dX1_due_79 hl rfl (by decide) rfl (fun ls hl => ?_)
                    refine n_iinc (k := 1) (lv' := [(4, .int (nI (i + 1))), (1, .int (nI (nd (u 3) k - 1 + i + 1))), (3, .int (nI (ar (uu 3 k)))), (2, .int (nI k)), (0, .ref (h 0))]) S dX1_due_82 hl rfl (by decide) rfl (fun ls hl => ?_)
                    refine lv_goto (tgt := 40) S.1 S.2.1 dX1_due_85 (by decide) ?_
                    exact ih2 (i + 1) u4 (by omega) (by omega) (fun a ha => by rw [eu4, gup_n _ _ _ ha]; exact hg a ha) (fun p hp => by rw [eu4, gup_s]; by_cases c : p = nd (u 3) k - 1 + i; (rw [c, va_up_self, pl_s, if_pos (by omega)]; exact (show kd (u 3 k) = 2 from by unfold kd; rw [if_neg (by omega)]).symm); (rw [va_up_ne _ _ c]; exact hm p (by omega))) _ _ _ hw (lv_sub hl [0, 2, 1, 3, 4] rfl)
                  · refine lv_iconst (v := nI 1) S.1 S.2.1 dX1_due_73 (by decide) ?_
                    refine lv_goto (tgt := 78) S.1 S.2.1 dX1_due_74 (by decide) ?_
                    refine m_s6 S hw (by omega) dX1_due_78 (fun u5 eu5 H locs hw => ?_)
                    refine n_iinc (k := 2) (lv' := [(1, .int (nI (nd (u 3) k - 1 + i + 1))), (4, .int (nI i)), (3, .int (nI (ar (uu 3 k)))), (2, .int (nI k)), (0, .ref (h 0))]) S dX1_due_79 hl rfl (by decide) rfl (fun ls hl => ?_)
                    refine n_iinc (k := 1) (lv' := [(4, .int (nI (i + 1))), (1, .int (nI (nd (u 3) k - 1 + i + 1))), (3, .int (nI (ar (uu 3 k)))), (2, .int (nI k)), (0, .ref (h 0))]) S dX1_due_82 hl rfl (by decide) rfl (fun ls hl => ?_)
                    refine lv_goto (tgt := 40) S.1 S.2.1 dX1_due_85 (by decide) ?_
                    exact ih2 (i + 1) u5 (by omega) (by omega) (fun a ha => by rw [eu5, gup_n _ _ _ ha]; exact hg a ha) (fun p hp => by rw [eu5, gup_s]; by_cases c : p = nd (u 3) k - 1 + i; (rw [c, va_up_self, pl_s, if_pos (by omega)]; exact (show kd (u 3 k) = 1 from by unfold kd; rw [if_pos (by omega)]).symm); (rw [va_up_ne _ _ c]; exact hm p (by omega))) _ _ _ hw (lv_sub hl [0, 2, 1, 3, 4] rfl)
          exact lp2 (ar (uu 3 k) + 1) 0 uu (by omega) (by omega) hf (fun p hp => by rw [pl_s, if_neg (by omega)]; exact hp6 p (by omega)) _ _ _ hw (lv_sub hl [0, 1, 2, 3, 4] rfl)
  exact lp (u 2 0 + 1) 0 u1 (by omega) (by omega) (fun a ha => by rw [eu1, gup_n _ _ _ ha]) (fun p hp => by rw [show p = 0 from Nat.lt_one_iff.mp hp, eu1, gup_s, va_up_self]; rfl) _ _ _ hw (lv_sub hl [0, 1, 2] rfl)
set_option maxHeartbeats 4000000 in
theorem mM_complete (l : Launch) (D : va_G) (h : Nat → Nat) (d : Nat → ClassId) (u : gU) (hq : qI (u 3) (u 2 0)) : gMi l yX1_complete cX1_complete 1 .boolean (rk 2) D (mL h d) (mT d) [.ref (h 0)] u (fun r u' => r = nI (bN (nd (u 3) (u 2 0) = 0)) ∧ ∀ a, a ≠ 6 → u' a = u a) := by
  refine gMi_of (by decide) (Nat.le_of_ble_eq_true rfl) ?_
  intro p e s m args below meth c A Q ls S hw hl hret
  have S : CallFix p m c cX1_complete 1 s args lw_all RX1 := S
  have hl : lv_has ls 1 [(0, .ref (h 0))] := hl
  refine lv_aload_n S.1 S.2.1 dX1_complete_0 rfl (lv_at hl 0 rfl) ?_
  refine g_calli (As := []) (rest := []) S hw (b := h 0) rfl rfl (mM_due l D h d u hq) (cw_X1_X1_due S.2.2.2.2 ⟨by decide, by decide⟩) rfl hl.1 rfl (Nat.le_of_ble_eq_true rfl) dX1_complete_1 ⟨Nat.zero_le _, Nat.zero_le _⟩ (fun r1 u1 H locs hp1 hw => ?_)
  obtain ⟨rfl, hf⟩ := hp1
  have h2 : u1 2 0 = u 2 0 := by rw [hf 2 (by decide)]
  have hq1 := hq.1
  have hd3 := duF_3 (u 3) (u 2 0)
  have hd0 := duF_0 (u 3) (u 2 0)
  refine n_if_ne (tgt := 11) S (by omega) dX1_complete_4 (by decide) (fun c4 => ?_) (fun c4 => ?_)
  · refine lv_iconst (v := nI 0) S.1 S.2.1 dX1_complete_11 (by decide) ?_
    exact hret _ _ dX1_complete_12 (nI_zn _ (by decide)) (⟨congrArg nI (bN_f (fun q => c4 (hd0.mpr q))).symm, hf⟩) hw
  · refine lv_iconst (v := nI 1) S.1 S.2.1 dX1_complete_7 (by decide) ?_
    refine lv_goto (tgt := 12) S.1 S.2.1 dX1_complete_8 (by decide) ?_
    exact hret _ _ dX1_complete_12 (nI_zn _ (by decide)) (⟨congrArg nI (bN_t (hd0.mp c4)).symm, hf⟩) hw
set_option maxHeartbeats 4000000 in
theorem mM_ask (l : Launch) (D : va_G) (h : Nat → Nat) (d : Nat → ClassId) (u : gU) (a : Int32) (hI : mI u) : gMi l yX1_ask cX1_ask 5 .int (rk 2) D (mL h d) (mT d) [.ref (h 0), .int a] u (fun r u' => (r, u' 3, u' 2 0) = asF (u 3) (u 2 0) a ∧ u' 0 = u 0 ∧ u' 1 = u 1) := by
  refine gMi_of (by decide) (Nat.le_of_ble_eq_true rfl) ?_
  intro p e s m args below meth c A Q ls S hw hl hret
  have S : CallFix p m c cX1_ask 5 s args lw_all RX1 := S
  have hl : lv_has ls 5 [(0, .ref (h 0)), (1, .int a)] := hl
  have hq := hI.2.2
  refine lv_aload_n S.1 S.2.1 dX1_ask_0 rfl (lv_at hl 0 rfl) ?_
  refine g_calli (As := []) (rest := []) S hw (b := h 0) rfl rfl (mM_due l D h d u hq) (cw_X1_X1_due S.2.2.2.2 ⟨by decide, by decide⟩) rfl hl.1 rfl (Nat.le_of_ble_eq_true rfl) dX1_ask_1 ⟨Nat.zero_le _, Nat.zero_le _⟩ (fun r1 u1 H locs hp1 hw => ?_)
  obtain ⟨rfl, hf⟩ := hp1
  have h2 : u1 2 0 = u 2 0 := by rw [hf 2 (by decide)]
  have hq1 := hq.1
  have hd3 := duF_3 (u 3) (u 2 0)
  have hd0 := duF_0 (u 3) (u 2 0)
  refine lv_istore_n (lv' := [(2, .int (nI (duF (u 3) (u 2 0)))), (0, .ref (h 0)), (1, .int a)]) S.1 S.2.1 dX1_ask_4 rfl hl (by decide) rfl (fun ls hl => ?_)
  refine lv_aload_n S.1 S.2.1 dX1_ask_5 rfl (lv_at hl 1 rfl) ?_
  refine m_g2 S hw dX1_ask_6 ?_
  refine lv_bipush (v := nI 12) S.1 S.2.1 dX1_ask_9 (by decide) ?_
  refine n_icmp_ge (tgt := 18) S (by omega) (by omega) dX1_ask_11 (by decide) (fun c11 => ?_) (fun c11 => ?_)
  · refine lv_bipush (v := (-2)) S.1 S.2.1 dX1_ask_18 (by decide) ?_
    exact hret _ _ dX1_ask_20 rfl ⟨by unfold asF; rw [if_pos (Or.inl (by omega)), hf 3 (by decide), h2], by rw [hf 0 (by decide)], by rw [hf 1 (by decide)]⟩ hw
  · refine lv_iload_n S.1 S.2.1 dX1_ask_14 rfl (lv_at hl 0 rfl) ?_
    refine n_if_ne (tgt := 21) S (by omega) dX1_ask_15 (by decide) (fun c15 => ?_) (fun c15 => ?_)
    · have hnd : ¬ nd (u 3) (u 2 0) = 0 := fun q => c15 (hd0.mpr q)
      have hpl : duF (u 3) (u 2 0) = pl (u 3) (u 2 0) (nd (u 3) (u 2 0) - 1) := by unfold duF; rw [if_neg hnd]
      have hp12 := pl_12 (u 3) (u 2 0) (nd (u 3) (u 2 0) - 1)
      by_cases ha : a < 0
      · refine lv_iload_n S.1 S.2.1 dX1_ask_21 rfl (lv_at hl 2 rfl) ?_
        refine lv_if_lt (tgt := 35) S.1 S.2.1 dX1_ask_22 (by decide) (fun c22 => ?_) (fun c22 => ?_)
        · refine lv_iconst (v := nI 0) S.1 S.2.1 dX1_ask_35 (by decide) ?_
          refine lv_istore_n (lv' := [(3, .int (nI 0)), (2, .int (nI (duF (u 3) (u 2 0)))), (0, .ref (h 0)), (1, .int a)]) S.1 S.2.1 dX1_ask_36 rfl hl (by decide) rfl (fun ls hl => ?_)
          refine lv_iload_n S.1 S.2.1 dX1_ask_37 rfl (lv_at hl 3 rfl) ?_
          refine lv_bipush (v := nI 20) S.1 S.2.1 dX1_ask_38 (by decide) ?_
          refine lv_icmp_lt (tgt := 53) S.1 S.2.1 dX1_ask_40 (by decide) (fun c40 => ?_) (fun c40 => ?_)
          · refine lv_iconst (v := nI 0) S.1 S.2.1 dX1_ask_53 (by decide) ?_
            refine lv_istore (lv' := [(4, .int (nI 0)), (3, .int (nI 0)), (2, .int (nI (duF (u 3) (u 2 0)))), (0, .ref (h 0)), (1, .int a)]) S.1 S.2.1 dX1_ask_54 hl (by decide) rfl (fun ls hl => ?_)
            refine lv_iload_n S.1 S.2.1 dX1_ask_56 rfl (lv_at hl 2 rfl) ?_
            refine lv_iconst (v := nI 1) S.1 S.2.1 dX1_ask_57 (by decide) ?_
            refine n_icmp_ne (tgt := 69) S (by omega) (by omega) dX1_ask_58 (by decide) (fun c58 => ?_) (fun c58 => ?_)
            · refine lv_iload_n S.1 S.2.1 dX1_ask_69 rfl (lv_at hl 1 rfl) ?_
              refine n_if_ne (tgt := 75) S (by decide) dX1_ask_70 (by decide) (fun c => absurd c (by decide)) (fun _ => ?_)
              refine lv_iconst (v := (-1)) S.1 S.2.1 dX1_ask_73 (by decide) ?_
              exact hret _ _ dX1_ask_74 rfl ⟨by unfold asF; rw [if_neg (fun q => by rcases q with q | q; omega; exact c15 (hd0.mpr q)), ix_neg ha, if_neg (by omega), hf 3 (by decide), h2], by rw [hf 0 (by decide)], by rw [hf 1 (by decide)]⟩ hw
            · refine lv_iload S.1 S.2.1 dX1_ask_61 (lv_at hl 0 rfl) ?_
              refine n_if_ne (tgt := 75) S (by decide) dX1_ask_63 (by decide) (fun c => absurd c (by decide)) (fun _ => ?_)
              refine lv_goto (tgt := 73) S.1 S.2.1 dX1_ask_66 (by decide) ?_
              refine lv_iconst (v := (-1)) S.1 S.2.1 dX1_ask_73 (by decide) ?_
              exact hret _ _ dX1_ask_74 rfl ⟨by unfold asF; rw [if_neg (fun q => by rcases q with q | q; omega; exact c15 (hd0.mpr q)), ix_neg ha, if_neg (by omega), hf 3 (by decide), h2], by rw [hf 0 (by decide)], by rw [hf 1 (by decide)]⟩ hw
          · exact absurd (Int32.lt_of_lt_of_le ha (by decide)) c40
        · exact absurd ha c22
      · obtain ⟨k, hk', rfl⟩ := nI_of ha
        refine lv_iload_n S.1 S.2.1 dX1_ask_21 rfl (lv_at hl 2 rfl) ?_
        refine n_if_lt (tgt := 35) S (by omega) dX1_ask_22 (by decide) ?_
        refine lv_iload_n S.1 S.2.1 dX1_ask_25 rfl (lv_at hl 2 rfl) ?_
        refine lv_bipush (v := nI 18) S.1 S.2.1 dX1_ask_26 (by decide) ?_
        refine n_icmp_gt (tgt := 35) S (by omega) (by omega) dX1_ask_28 (by decide) (fun c28 => ?_) (fun c28 => ?_)
        · refine lv_iconst (v := nI 0) S.1 S.2.1 dX1_ask_35 (by decide) ?_
          refine lv_istore_n (lv' := [(3, .int (nI 0)), (2, .int (nI (duF (u 3) (u 2 0)))), (0, .ref (h 0)), (1, .int (nI k))]) S.1 S.2.1 dX1_ask_36 rfl hl (by decide) rfl (fun ls hl => ?_)
          refine lv_iload_n S.1 S.2.1 dX1_ask_37 rfl (lv_at hl 3 rfl) ?_
          refine lv_bipush (v := nI 20) S.1 S.2.1 dX1_ask_38 (by decide) ?_
          refine n_icmp_lt (tgt := 53) S (by omega) (by omega) dX1_ask_40 (by decide) (fun c40 => ?_) (fun c40 => ?_)
          · refine lv_iconst (v := nI 0) S.1 S.2.1 dX1_ask_53 (by decide) ?_
            refine lv_istore (lv' := [(4, .int (nI 0)), (3, .int (nI 0)), (2, .int (nI (duF (u 3) (u 2 0)))), (0, .ref (h 0)), (1, .int (nI k))]) S.1 S.2.1 dX1_ask_54 hl (by decide) rfl (fun ls hl => ?_)
            refine lv_iload_n S.1 S.2.1 dX1_ask_56 rfl (lv_at hl 2 rfl) ?_
            refine lv_iconst (v := nI 1) S.1 S.2.1 dX1_ask_57 (by decide) ?_
            refine n_icmp_ne (tgt := 69) S (by omega) (by omega) dX1_ask_58 (by decide) (fun c58 => ?_) (fun c58 => ?_)
            · refine lv_iload_n S.1 S.2.1 dX1_ask_69 rfl (lv_at hl 1 rfl) ?_
              refine n_if_ne (tgt := 75) S (by decide) dX1_ask_70 (by decide) (fun c => absurd c (by decide)) (fun _ => ?_)
              refine lv_iconst (v := (-1)) S.1 S.2.1 dX1_ask_73 (by decide) ?_
              exact hret _ _ dX1_ask_74 rfl ⟨by unfold asF; rw [if_neg (fun q => by rcases q with q | q; omega; exact c15 (hd0.mpr q)), ix_nI hk', if_neg (by omega), hf 3 (by decide), h2], by rw [hf 0 (by decide)], by rw [hf 1 (by decide)]⟩ hw
            · refine lv_iload S.1 S.2.1 dX1_ask_61 (lv_at hl 0 rfl) ?_
              refine n_if_ne (tgt := 75) S (by decide) dX1_ask_63 (by decide) (fun c => absurd c (by decide)) (fun _ => ?_)
              refine lv_goto (tgt := 73) S.1 S.2.1 dX1_ask_66 (by decide) ?_
              refine lv_iconst (v := (-1)) S.1 S.2.1 dX1_ask_73 (by decide) ?_
              exact hret _ _ dX1_ask_74 rfl ⟨by unfold asF; rw [if_neg (fun q => by rcases q with q | q; omega; exact c15 (hd0.mpr q)), ix_nI hk', if_neg (by omega), hf 3 (by decide), h2], by rw [hf 0 (by decide)], by rw [hf 1 (by decide)]⟩ hw
          · refine lv_iload_n S.1 S.2.1 dX1_ask_43 rfl (lv_at hl 3 rfl) ?_
            refine lv_bipush (v := nI 23) S.1 S.2.1 dX1_ask_44 (by decide) ?_
            refine n_icmp_gt (tgt := 53) S (by omega) (by omega) dX1_ask_46 (by decide) (fun c46 => ?_) (fun c46 => ?_)
            · refine lv_iconst (v := nI 0) S.1 S.2.1 dX1_ask_53 (by decide) ?_
              refine lv_istore (lv' := [(4, .int (nI 0)), (3, .int (nI 0)), (2, .int (nI (duF (u 3) (u 2 0)))), (0, .ref (h 0)), (1, .int (nI k))]) S.1 S.2.1 dX1_ask_54 hl (by decide) rfl (fun ls hl => ?_)
              refine lv_iload_n S.1 S.2.1 dX1_ask_56 rfl (lv_at hl 2 rfl) ?_
              refine lv_iconst (v := nI 1) S.1 S.2.1 dX1_ask_57 (by decide) ?_
              refine n_icmp_ne (tgt := 69) S (by omega) (by omega) dX1_ask_58 (by decide) (fun c58 => ?_) (fun c58 => ?_)
              · refine lv_iload_n S.1 S.2.1 dX1_ask_69 rfl (lv_at hl 1 rfl) ?_
                refine n_if_ne (tgt := 75) S (by decide) dX1_ask_70 (by decide) (fun c => absurd c (by decide)) (fun _ => ?_)
                refine lv_iconst (v := (-1)) S.1 S.2.1 dX1_ask_73 (by decide) ?_
                exact hret _ _ dX1_ask_74 rfl ⟨by unfold asF; rw [if_neg (fun q => by rcases q with q | q; omega; exact c15 (hd0.mpr q)), ix_nI hk', if_neg (by omega), hf 3 (by decide), h2], by rw [hf 0 (by decide)], by rw [hf 1 (by decide)]⟩ hw
              · refine lv_iload S.1 S.2.1 dX1_ask_61 (lv_at hl 0 rfl) ?_
                refine n_if_ne (tgt := 75) S (by decide) dX1_ask_63 (by decide) (fun c => absurd c (by decide)) (fun _ => ?_)
                refine lv_goto (tgt := 73) S.1 S.2.1 dX1_ask_66 (by decide) ?_
                refine lv_iconst (v := (-1)) S.1 S.2.1 dX1_ask_73 (by decide) ?_
                exact hret _ _ dX1_ask_74 rfl ⟨by unfold asF; rw [if_neg (fun q => by rcases q with q | q; omega; exact c15 (hd0.mpr q)), ix_nI hk', if_neg (by omega), hf 3 (by decide), h2], by rw [hf 0 (by decide)], by rw [hf 1 (by decide)]⟩ hw
            · refine lv_iconst (v := nI 1) S.1 S.2.1 dX1_ask_49 (by decide) ?_
              refine lv_goto (tgt := 54) S.1 S.2.1 dX1_ask_50 (by decide) ?_
              refine lv_istore (lv' := [(4, .int (nI 1)), (3, .int (nI 0)), (2, .int (nI (duF (u 3) (u 2 0)))), (0, .ref (h 0)), (1, .int (nI k))]) S.1 S.2.1 dX1_ask_54 hl (by decide) rfl (fun ls hl => ?_)
              refine lv_iload_n S.1 S.2.1 dX1_ask_56 rfl (lv_at hl 2 rfl) ?_
              refine lv_iconst (v := nI 1) S.1 S.2.1 dX1_ask_57 (by decide) ?_
              refine n_icmp_ne (tgt := 69) S (by omega) (by omega) dX1_ask_58 (by decide) (fun c58 => ?_) (fun c58 => ?_)
              · refine lv_iload_n S.1 S.2.1 dX1_ask_69 rfl (lv_at hl 1 rfl) ?_
                refine n_if_ne (tgt := 75) S (by decide) dX1_ask_70 (by decide) (fun c => absurd c (by decide)) (fun _ => ?_)
                refine lv_iconst (v := (-1)) S.1 S.2.1 dX1_ask_73 (by decide) ?_
                exact hret _ _ dX1_ask_74 rfl ⟨by unfold asF; rw [if_neg (fun q => by rcases q with q | q; omega; exact c15 (hd0.mpr q)), ix_nI hk', if_neg (by omega), hf 3 (by decide), h2], by rw [hf 0 (by decide)], by rw [hf 1 (by decide)]⟩ hw
              · refine lv_iload S.1 S.2.1 dX1_ask_61 (lv_at hl 0 rfl) ?_
                refine n_if_ne (tgt := 75) S (by decide) dX1_ask_63 (by decide) (fun _ => ?_) (fun c => absurd c (by decide))
                refine lv_aload_n S.1 S.2.1 dX1_ask_75 rfl (lv_at hl 3 rfl) ?_
                refine m_g3 S hw dX1_ask_76 ?_
                refine lv_aload_n S.1 S.2.1 dX1_ask_79 rfl (lv_at hl 3 rfl) ?_
                refine m_g2 S hw dX1_ask_80 ?_
                refine lv_iload_n S.1 S.2.1 dX1_ask_83 rfl (lv_at hl 4 rfl) ?_
                refine m_s3 S hw (by omega) dX1_ask_84 (fun u2 eu2 H locs hw => ?_)
                refine lv_aload_n S.1 S.2.1 dX1_ask_85 rfl (lv_at hl 3 rfl) ?_
                refine lv_dup S.1 S.2.1 dX1_ask_86 rfl ?_
                refine m_g2 S hw dX1_ask_87 ?_
                refine lv_iconst (v := nI 1) S.1 S.2.1 dX1_ask_90 (by decide) ?_
                refine n_iadd S dX1_ask_91 ?_
                refine m_p2 S hw dX1_ask_92 (fun u3 eu3 H locs hw => ?_)
                refine lv_aload_n S.1 S.2.1 dX1_ask_95 rfl (lv_at hl 3 rfl) ?_
                refine m_g2 S hw dX1_ask_96 ?_
                exact hret _ _ dX1_ask_99 rfl ⟨by unfold asF; rw [if_neg (fun q => by rcases q with q | q; omega; exact c15 (hd0.mpr q)), ix_in hk' (by omega), if_pos (by omega), show u3 3 = va_up (u 3) (u 2 0) k by rw [eu3, gup_n _ _ _ (by decide), eu2, gup_s, hf 3 (by decide), h2], show u3 2 0 = u 2 0 + 1 by rw [eu3, gup_s, va_up_self, eu2, gup_n _ _ _ (by decide), h2]], by rw [eu3, gup_n _ _ _ (by decide), eu2, gup_n _ _ _ (by decide), hf 0 (by decide)], by rw [eu3, gup_n _ _ _ (by decide), eu2, gup_n _ _ _ (by decide), hf 1 (by decide)]⟩ hw
        · refine lv_iconst (v := nI 1) S.1 S.2.1 dX1_ask_31 (by decide) ?_
          refine lv_goto (tgt := 36) S.1 S.2.1 dX1_ask_32 (by decide) ?_
          refine lv_istore_n (lv' := [(3, .int (nI 1)), (2, .int (nI (duF (u 3) (u 2 0)))), (0, .ref (h 0)), (1, .int (nI k))]) S.1 S.2.1 dX1_ask_36 rfl hl (by decide) rfl (fun ls hl => ?_)
          refine lv_iload_n S.1 S.2.1 dX1_ask_37 rfl (lv_at hl 3 rfl) ?_
          refine lv_bipush (v := nI 20) S.1 S.2.1 dX1_ask_38 (by decide) ?_
          refine n_icmp_lt (tgt := 53) S (by omega) (by omega) dX1_ask_40 (by decide) (fun c40 => ?_) (fun c40 => ?_)
          · refine lv_iconst (v := nI 0) S.1 S.2.1 dX1_ask_53 (by decide) ?_
            refine lv_istore (lv' := [(4, .int (nI 0)), (3, .int (nI 1)), (2, .int (nI (duF (u 3) (u 2 0)))), (0, .ref (h 0)), (1, .int (nI k))]) S.1 S.2.1 dX1_ask_54 hl (by decide) rfl (fun ls hl => ?_)
            refine lv_iload_n S.1 S.2.1 dX1_ask_56 rfl (lv_at hl 2 rfl) ?_
            refine lv_iconst (v := nI 1) S.1 S.2.1 dX1_ask_57 (by decide) ?_
            refine n_icmp_ne (tgt := 69) S (by omega) (by omega) dX1_ask_58 (by decide) (fun c58 => ?_) (fun c58 => ?_)
            · refine lv_iload_n S.1 S.2.1 dX1_ask_69 rfl (lv_at hl 1 rfl) ?_
              refine n_if_ne (tgt := 75) S (by decide) dX1_ask_70 (by decide) (fun _ => ?_) (fun c => absurd c (by decide))
              refine lv_aload_n S.1 S.2.1 dX1_ask_75 rfl (lv_at hl 3 rfl) ?_
              refine m_g3 S hw dX1_ask_76 ?_
              refine lv_aload_n S.1 S.2.1 dX1_ask_79 rfl (lv_at hl 3 rfl) ?_
              refine m_g2 S hw dX1_ask_80 ?_
              refine lv_iload_n S.1 S.2.1 dX1_ask_83 rfl (lv_at hl 4 rfl) ?_
              refine m_s3 S hw (by omega) dX1_ask_84 (fun u4 eu4 H locs hw => ?_)
              refine lv_aload_n S.1 S.2.1 dX1_ask_85 rfl (lv_at hl 3 rfl) ?_
              refine lv_dup S.1 S.2.1 dX1_ask_86 rfl ?_
              refine m_g2 S hw dX1_ask_87 ?_
              refine lv_iconst (v := nI 1) S.1 S.2.1 dX1_ask_90 (by decide) ?_
              refine n_iadd S dX1_ask_91 ?_
              refine m_p2 S hw dX1_ask_92 (fun u5 eu5 H locs hw => ?_)
              refine lv_aload_n S.1 S.2.1 dX1_ask_95 rfl (lv_at hl 3 rfl) ?_
              refine m_g2 S hw dX1_ask_96 ?_
              exact hret _ _ dX1_ask_99 rfl ⟨by unfold asF; rw [if_neg (fun q => by rcases q with q | q; omega; exact c15 (hd0.mpr q)), ix_in hk' (by omega), if_pos (by omega), show u5 3 = va_up (u 3) (u 2 0) k by rw [eu5, gup_n _ _ _ (by decide), eu4, gup_s, hf 3 (by decide), h2], show u5 2 0 = u 2 0 + 1 by rw [eu5, gup_s, va_up_self, eu4, gup_n _ _ _ (by decide), h2]], by rw [eu5, gup_n _ _ _ (by decide), eu4, gup_n _ _ _ (by decide), hf 0 (by decide)], by rw [eu5, gup_n _ _ _ (by decide), eu4, gup_n _ _ _ (by decide), hf 1 (by decide)]⟩ hw
            · refine lv_iload S.1 S.2.1 dX1_ask_61 (lv_at hl 0 rfl) ?_
              refine n_if_ne (tgt := 75) S (by decide) dX1_ask_63 (by decide) (fun c => absurd c (by decide)) (fun _ => ?_)
              refine lv_goto (tgt := 73) S.1 S.2.1 dX1_ask_66 (by decide) ?_
              refine lv_iconst (v := (-1)) S.1 S.2.1 dX1_ask_73 (by decide) ?_
              exact hret _ _ dX1_ask_74 rfl ⟨by unfold asF; rw [if_neg (fun q => by rcases q with q | q; omega; exact c15 (hd0.mpr q)), ix_nI hk', if_neg (by omega), hf 3 (by decide), h2], by rw [hf 0 (by decide)], by rw [hf 1 (by decide)]⟩ hw
          · refine lv_iload_n S.1 S.2.1 dX1_ask_43 rfl (lv_at hl 3 rfl) ?_
            refine lv_bipush (v := nI 23) S.1 S.2.1 dX1_ask_44 (by decide) ?_
            refine n_icmp_gt (tgt := 53) S (by omega) (by omega) dX1_ask_46 (by decide) (fun c46 => ?_) (fun c46 => ?_)
            · refine lv_iconst (v := nI 0) S.1 S.2.1 dX1_ask_53 (by decide) ?_
              refine lv_istore (lv' := [(4, .int (nI 0)), (3, .int (nI 1)), (2, .int (nI (duF (u 3) (u 2 0)))), (0, .ref (h 0)), (1, .int (nI k))]) S.1 S.2.1 dX1_ask_54 hl (by decide) rfl (fun ls hl => ?_)
              refine lv_iload_n S.1 S.2.1 dX1_ask_56 rfl (lv_at hl 2 rfl) ?_
              refine lv_iconst (v := nI 1) S.1 S.2.1 dX1_ask_57 (by decide) ?_
              refine n_icmp_ne (tgt := 69) S (by omega) (by omega) dX1_ask_58 (by decide) (fun c58 => ?_) (fun c58 => ?_)
              · refine lv_iload_n S.1 S.2.1 dX1_ask_69 rfl (lv_at hl 1 rfl) ?_
                refine n_if_ne (tgt := 75) S (by decide) dX1_ask_70 (by decide) (fun _ => ?_) (fun c => absurd c (by decide))
                refine lv_aload_n S.1 S.2.1 dX1_ask_75 rfl (lv_at hl 3 rfl) ?_
                refine m_g3 S hw dX1_ask_76 ?_
                refine lv_aload_n S.1 S.2.1 dX1_ask_79 rfl (lv_at hl 3 rfl) ?_
                refine m_g2 S hw dX1_ask_80 ?_
                refine lv_iload_n S.1 S.2.1 dX1_ask_83 rfl (lv_at hl 4 rfl) ?_
                refine m_s3 S hw (by omega) dX1_ask_84 (fun u6 eu6 H locs hw => ?_)
                refine lv_aload_n S.1 S.2.1 dX1_ask_85 rfl (lv_at hl 3 rfl) ?_
                refine lv_dup S.1 S.2.1 dX1_ask_86 rfl ?_
                refine m_g2 S hw dX1_ask_87 ?_
                refine lv_iconst (v := nI 1) S.1 S.2.1 dX1_ask_90 (by decide) ?_
                refine n_iadd S dX1_ask_91 ?_
                refine m_p2 S hw dX1_ask_92 (fun u7 eu7 H locs hw => ?_)
                refine lv_aload_n S.1 S.2.1 dX1_ask_95 rfl (lv_at hl 3 rfl) ?_
                refine m_g2 S hw dX1_ask_96 ?_
                exact hret _ _ dX1_ask_99 rfl ⟨by unfold asF; rw [if_neg (fun q => by rcases q with q | q; omega; exact c15 (hd0.mpr q)), ix_in hk' (by omega), if_pos (by omega), show u7 3 = va_up (u 3) (u 2 0) k by rw [eu7, gup_n _ _ _ (by decide), eu6, gup_s, hf 3 (by decide), h2], show u7 2 0 = u 2 0 + 1 by rw [eu7, gup_s, va_up_self, eu6, gup_n _ _ _ (by decide), h2]], by rw [eu7, gup_n _ _ _ (by decide), eu6, gup_n _ _ _ (by decide), hf 0 (by decide)], by rw [eu7, gup_n _ _ _ (by decide), eu6, gup_n _ _ _ (by decide), hf 1 (by decide)]⟩ hw
              · refine lv_iload S.1 S.2.1 dX1_ask_61 (lv_at hl 0 rfl) ?_
                refine n_if_ne (tgt := 75) S (by decide) dX1_ask_63 (by decide) (fun c => absurd c (by decide)) (fun _ => ?_)
                refine lv_goto (tgt := 73) S.1 S.2.1 dX1_ask_66 (by decide) ?_
                refine lv_iconst (v := (-1)) S.1 S.2.1 dX1_ask_73 (by decide) ?_
                exact hret _ _ dX1_ask_74 rfl ⟨by unfold asF; rw [if_neg (fun q => by rcases q with q | q; omega; exact c15 (hd0.mpr q)), ix_nI hk', if_neg (by omega), hf 3 (by decide), h2], by rw [hf 0 (by decide)], by rw [hf 1 (by decide)]⟩ hw
            · refine lv_iconst (v := nI 1) S.1 S.2.1 dX1_ask_49 (by decide) ?_
              refine lv_goto (tgt := 54) S.1 S.2.1 dX1_ask_50 (by decide) ?_
              refine lv_istore (lv' := [(4, .int (nI 1)), (3, .int (nI 1)), (2, .int (nI (duF (u 3) (u 2 0)))), (0, .ref (h 0)), (1, .int (nI k))]) S.1 S.2.1 dX1_ask_54 hl (by decide) rfl (fun ls hl => ?_)
              refine lv_iload_n S.1 S.2.1 dX1_ask_56 rfl (lv_at hl 2 rfl) ?_
              refine lv_iconst (v := nI 1) S.1 S.2.1 dX1_ask_57 (by decide) ?_
              refine n_icmp_ne (tgt := 69) S (by omega) (by omega) dX1_ask_58 (by decide) (fun c58 => ?_) (fun c58 => ?_)
              · refine lv_iload_n S.1 S.2.1 dX1_ask_69 rfl (lv_at hl 1 rfl) ?_
                refine n_if_ne (tgt := 75) S (by decide) dX1_ask_70 (by decide) (fun _ => ?_) (fun c => absurd c (by decide))
                refine lv_aload_n S.1 S.2.1 dX1_ask_75 rfl (lv_at hl 3 rfl) ?_
                refine m_g3 S hw dX1_ask_76 ?_
                refine lv_aload_n S.1 S.2.1 dX1_ask_79 rfl (lv_at hl 3 rfl) ?_
                refine m_g2 S hw dX1_ask_80 ?_
                refine lv_iload_n S.1 S.2.1 dX1_ask_83 rfl (lv_at hl 4 rfl) ?_
                refine m_s3 S hw (by omega) dX1_ask_84 (fun u8 eu8 H locs hw => ?_)
                refine lv_aload_n S.1 S.2.1 dX1_ask_85 rfl (lv_at hl 3 rfl) ?_
                refine lv_dup S.1 S.2.1 dX1_ask_86 rfl ?_
                refine m_g2 S hw dX1_ask_87 ?_
                refine lv_iconst (v := nI 1) S.1 S.2.1 dX1_ask_90 (by decide) ?_
                refine n_iadd S dX1_ask_91 ?_
                refine m_p2 S hw dX1_ask_92 (fun u9 eu9 H locs hw => ?_)
                refine lv_aload_n S.1 S.2.1 dX1_ask_95 rfl (lv_at hl 3 rfl) ?_
                refine m_g2 S hw dX1_ask_96 ?_
                exact hret _ _ dX1_ask_99 rfl ⟨by unfold asF; rw [if_neg (fun q => by rcases q with q | q; omega; exact c15 (hd0.mpr q)), ix_in hk' (by omega), if_pos (by omega), show u9 3 = va_up (u 3) (u 2 0) k by rw [eu9, gup_n _ _ _ (by decide), eu8, gup_s, hf 3 (by decide), h2], show u9 2 0 = u 2 0 + 1 by rw [eu9, gup_s, va_up_self, eu8, gup_n _ _ _ (by decide), h2]], by rw [eu9, gup_n _ _ _ (by decide), eu8, gup_n _ _ _ (by decide), hf 0 (by decide)], by rw [eu9, gup_n _ _ _ (by decide), eu8, gup_n _ _ _ (by decide), hf 1 (by decide)]⟩ hw
              · refine lv_iload S.1 S.2.1 dX1_ask_61 (lv_at hl 0 rfl) ?_
                refine n_if_ne (tgt := 75) S (by decide) dX1_ask_63 (by decide) (fun _ => ?_) (fun c => absurd c (by decide))
                refine lv_aload_n S.1 S.2.1 dX1_ask_75 rfl (lv_at hl 3 rfl) ?_
                refine m_g3 S hw dX1_ask_76 ?_
                refine lv_aload_n S.1 S.2.1 dX1_ask_79 rfl (lv_at hl 3 rfl) ?_
                refine m_g2 S hw dX1_ask_80 ?_
                refine lv_iload_n S.1 S.2.1 dX1_ask_83 rfl (lv_at hl 4 rfl) ?_
                refine m_s3 S hw (by omega) dX1_ask_84 (fun u10 eu10 H locs hw => ?_)
                refine lv_aload_n S.1 S.2.1 dX1_ask_85 rfl (lv_at hl 3 rfl) ?_
                refine lv_dup S.1 S.2.1 dX1_ask_86 rfl ?_
                refine m_g2 S hw dX1_ask_87 ?_
                refine lv_iconst (v := nI 1) S.1 S.2.1 dX1_ask_90 (by decide) ?_
                refine n_iadd S dX1_ask_91 ?_
                refine m_p2 S hw dX1_ask_92 (fun u11 eu11 H locs hw => ?_)
                refine lv_aload_n S.1 S.2.1 dX1_ask_95 rfl (lv_at hl 3 rfl) ?_
                refine m_g2 S hw dX1_ask_96 ?_
                exact hret _ _ dX1_ask_99 rfl ⟨by unfold asF; rw [if_neg (fun q => by rcases q with q | q; omega; exact c15 (hd0.mpr q)), ix_in hk' (by omega), if_pos (by omega), show u11 3 = va_up (u 3) (u 2 0) k by rw [eu11, gup_n _ _ _ (by decide), eu10, gup_s, hf 3 (by decide), h2], show u11 2 0 = u 2 0 + 1 by rw [eu11, gup_s, va_up_self, eu10, gup_n _ _ _ (by decide), h2]], by rw [eu11, gup_n _ _ _ (by decide), eu10, gup_n _ _ _ (by decide), hf 0 (by decide)], by rw [eu11, gup_n _ _ _ (by decide), eu10, gup_n _ _ _ (by decide), hf 1 (by decide)]⟩ hw
    · refine lv_bipush (v := (-2)) S.1 S.2.1 dX1_ask_18 (by decide) ?_
      exact hret _ _ dX1_ask_20 rfl ⟨by unfold asF; rw [if_pos (Or.inr (hd0.mp c15)), hf 3 (by decide), h2], by rw [hf 0 (by decide)], by rw [hf 1 (by decide)]⟩ hw
noncomputable def hvc (z x : Nat → Nat) (w c : Nat) : Nat := hvf z x w (c / 24) ||| (@ite _ (hit z x (c / 24) w (c % 24)) (Classical.propDecidable _) (1 <<< (c / 24)) 0)
theorem hit_s {z x : Nat → Nat} {dd w m : Nat} : hit z x dd w (m + 1) ↔ (hit z x dd w m ∨ (m < z dd ∧ x (24 * dd + m) = w)) := by
  constructor
  · rintro ⟨p, hp, r⟩
    rcases Nat.lt_succ_iff_lt_or_eq.mp hp with q | q
    · exact Or.inl ⟨p, q, r⟩
    · subst q; exact Or.inr r
  · rintro (⟨p, hp, r⟩ | r)
    · exact ⟨p, by omega, r⟩
    · exact ⟨m, by omega, r⟩
theorem hit_0 {z x : Nat → Nat} {dd w : Nat} : ¬ hit z x dd w 0 := fun ⟨_, hp, _⟩ => absurd hp (by omega)
theorem or_or_self (a b : Nat) : (a ||| b) ||| b = a ||| b := by rw [Nat.or_assoc, Nat.or_self]
/-- one more place: its own mask is taken in if it is a hit -/
theorem hvc_part {z x : Nat → Nat} {w q m : Nat} : (hvf z x w q ||| (@ite _ (hit z x q w (m + 1)) (Classical.propDecidable _) (1 <<< q) 0)) = (if m < z q ∧ x (24 * q + m) = w then (hvf z x w q ||| (@ite _ (hit z x q w m) (Classical.propDecidable _) (1 <<< q) 0)) ||| (1 <<< q) else (hvf z x w q ||| (@ite _ (hit z x q w m) (Classical.propDecidable _) (1 <<< q) 0))) := by
  by_cases c : m < z q ∧ x (24 * q + m) = w
  · rw [if_pos c, if_pos (hit_s.mpr (Or.inr c))]
    by_cases c2 : hit z x q w m
    · rw [if_pos c2, or_or_self]
    · rw [if_neg c2, Nat.or_zero]
  · rw [if_neg c]
    by_cases c2 : hit z x q w m
    · rw [if_pos c2, if_pos (hit_s.mpr (Or.inl c2))]
    · rw [if_neg c2, if_neg (fun q => (hit_s.mp q).elim c2 c)]
theorem hvc_s {z x : Nat → Nat} {w c : Nat} : hvc z x w (c + 1) = if c % 24 < z (c / 24) ∧ x c = w then hvc z x w c ||| (1 <<< (c / 24)) else hvc z x w c := by
  have e : 24 * (c / 24) + c % 24 = c := Nat.div_add_mod c 24
  have key := hvc_part (z := z) (x := x) (w := w) (q := c / 24) (m := c % 24)
  rw [e] at key
  unfold hvc
  rw [← key]
  by_cases r : c % 24 = 23
  · rw [show (c + 1) / 24 = c / 24 + 1 by omega, show (c + 1) % 24 = 0 by omega, if_neg hit_0, Nat.or_zero, hvf, r]
  · rw [show (c + 1) / 24 = c / 24 by omega, show (c + 1) % 24 = c % 24 + 1 by omega]
theorem hvf_0 {z x : Nat → Nat} {w : Nat} (h : ∀ i, x i < 12) (hw : 12 ≤ w) : ∀ m, hvf z x w m = 0
  | 0 => rfl
  | m + 1 => by
    rw [hvf, hvf_0 h hw m, if_neg]
    · rfl
    · rintro ⟨p, -, -, r⟩
      have := h (24 * m + p)
      omega
theorem hvc_end {z x : Nat → Nat} {w : Nat} : hvc z x w 144 = hvf z x w 6 := by
  unfold hvc
  rw [show 144 / 24 = 6 from rfl, show 144 % 24 = 0 from rfl, if_neg hit_0, Nat.or_zero]
def frc (z x : Nat → Nat) (w c : Nat) : Nat := frf z x w (c / 24) + cnf z x (c / 24) w (c % 24)
theorem frc_s {z x : Nat → Nat} {w c : Nat} : frc z x w (c + 1) = frc z x w c + bN (c % 24 < z (c / 24) ∧ x c = w) := by
  have e : 24 * (c / 24) + c % 24 = c := Nat.div_add_mod c 24
  have k : cnf z x (c / 24) w (c % 24 + 1) = cnf z x (c / 24) w (c % 24) + bN (c % 24 < z (c / 24) ∧ x c = w) := by
    show cnf z x (c / 24) w (c % 24) + bN (c % 24 < z (c / 24) ∧ x (24 * (c / 24) + c % 24) = w) = _
    rw [e]
  unfold frc
  rw [Nat.add_assoc, ← k]
  by_cases r : c % 24 = 23
  · rw [show (c + 1) / 24 = c / 24 + 1 by omega, show (c + 1) % 24 = 0 by omega, frf, r]
    rfl
  · rw [show (c + 1) / 24 = c / 24 by omega, show (c + 1) % 24 = c % 24 + 1 by omega]
theorem cnf_0 {z x : Nat → Nat} {dd w : Nat} (h : ∀ i, x i < 12) (hw : 12 ≤ w) : ∀ m, cnf z x dd w m = 0
  | 0 => rfl
  | m + 1 => by
    rw [cnf, cnf_0 h hw m, bN_f]
    intro q
    have := h (24 * dd + m)
    omega
theorem frf_0 {z x : Nat → Nat} {w : Nat} (h : ∀ i, x i < 12) (hw : 12 ≤ w) : ∀ m, frf z x w m = 0
  | 0 => rfl
  | m + 1 => by rw [frf, frf_0 h hw m, cnf_0 h hw]
set_option maxHeartbeats 4000000 in
theorem mM_having (l : Launch) (D : va_G) (h : Nat → Nat) (d : Nat → ClassId) (u : gU) (b : Int32) (hI : mI u) : gMi l yX1_having cX1_having 4 .int (rk 0) D (mL h d) (mT d) [.ref (h 0), .int b] u (fun r u' => r = hvF (u 0) (u 1) b ∧ u = u') := by
  refine gMi_of (by decide) (Nat.le_of_ble_eq_true rfl) ?_
  intro p e s m args below meth c A Q ls S hw hl hret
  have S : CallFix p m c cX1_having 4 s args lw_all RX1 := S
  have hl : lv_has ls 4 [(0, .ref (h 0)), (1, .int b)] := hl
  by_cases hb : b < 0
  · refine lv_iconst (v := nI 0) S.1 S.2.1 dX1_having_0 (by decide) ?_
    refine lv_istore_n (lv' := [(2, .int (nI 0)), (0, .ref (h 0)), (1, .int b)]) S.1 S.2.1 dX1_having_1 rfl hl (by decide) rfl (fun ls hl => ?_)
    refine lv_iconst (v := nI 0) S.1 S.2.1 dX1_having_2 (by decide) ?_
    refine lv_istore_n (lv' := [(3, .int (nI 0)), (2, .int (nI 0)), (0, .ref (h 0)), (1, .int b)]) S.1 S.2.1 dX1_having_3 rfl hl (by decide) rfl (fun ls hl => ?_)
    refine lv_iload_n S.1 S.2.1 dX1_having_4 rfl (lv_at hl 0 rfl) ?_
    refine lv_sipush (v := nI 144) S.1 S.2.1 dX1_having_5 (by decide) ?_
    refine n_icmp_ge (tgt := 60) S (by omega) (by omega) dX1_having_8 (by decide) (fun c8 => ?_) (fun c8 => ?_)
    · exact absurd c8 (by omega)
    · refine lv_iload_n S.1 S.2.1 dX1_having_11 rfl (lv_at hl 3 rfl) ?_
      refine lv_if_lt (tgt := 60) S.1 S.2.1 dX1_having_12 (by decide) (fun c12 => ?_) (fun c12 => ?_)
      · refine lv_iload_n S.1 S.2.1 dX1_having_60 rfl (lv_at hl 1 rfl) ?_
        exact hret _ _ dX1_having_61 rfl (⟨by unfold hvF; rw [ix_neg hb, if_neg (by omega)], rfl⟩) hw
      · exact absurd hb c12
  · obtain ⟨k, hk', rfl⟩ := nI_of hb
    have lp : ∀ (n : Nat) (i v : Nat), (i ≤ 144) → (145 ≤ i + n) → (v = hvc (u 0) (u 1) k i) → ∀ (H : Heap) (locs : List Loc) (ls : Array Slot), mW D h d A s H locs u → lv_has ls 4 [(3, .int (nI i)), (2, .int (nI v)), (0, .ref (h 0)), (1, .int (nI k))] → W p l e (rk 0) s m args below meth c H locs 0 0 Q (F0 m 4 ls []) := by
      intro n
      induction n with
      | zero =>
        intro i v hi hn hv
        exfalso; omega
      | succ n ih =>
        intro i v hi hn hv H locs ls hw hl
        refine lv_iload_n S.1 S.2.1 dX1_having_4 rfl (lv_at hl 0 rfl) ?_
        refine lv_sipush (v := nI 144) S.1 S.2.1 dX1_having_5 (by decide) ?_
        refine n_icmp_ge (tgt := 60) S (by omega) (by omega) dX1_having_8 (by decide) (fun c8 => ?_) (fun c8 => ?_)
        · refine lv_iload_n S.1 S.2.1 dX1_having_60 rfl (lv_at hl 1 rfl) ?_
          have hi144 : i = 144 := by omega
          refine hret _ _ dX1_having_61 rfl ⟨?_, rfl⟩ hw
          unfold hvF
          by_cases hk : k < 12
          · rw [ix_in hk' hk, if_pos hk, hv, hi144, hvc_end]
          · rw [ix_nI hk', if_neg (by omega), hv, hi144, hvc_end, hvf_0 hI.2.1 (by omega)]
        · refine lv_iload_n S.1 S.2.1 dX1_having_11 rfl (lv_at hl 3 rfl) ?_
          refine n_if_lt (tgt := 60) S (by omega) dX1_having_12 (by decide) ?_
          refine lv_iload_n S.1 S.2.1 dX1_having_15 rfl (lv_at hl 0 rfl) ?_
          refine lv_bipush (v := nI 24) S.1 S.2.1 dX1_having_16 (by decide) ?_
          refine n_irem S (by omega) (by omega) (by omega) dX1_having_18 ?_
          refine lv_aload_n S.1 S.2.1 dX1_having_19 rfl (lv_at hl 2 rfl) ?_
          refine m_g0 S hw dX1_having_20 ?_
          refine lv_iload_n S.1 S.2.1 dX1_having_23 rfl (lv_at hl 0 rfl) ?_
          refine lv_bipush (v := nI 24) S.1 S.2.1 dX1_having_24 (by decide) ?_
          refine n_idiv S (by omega) (by omega) (by omega) dX1_having_26 ?_
          refine m_l0 S hw (by omega) dX1_having_27 ?_
          refine n_icmp_ge (tgt := 52) S (by omega) (by have := hI.1 (i / 24); omega) dX1_having_28 (by decide) (fun c28 => ?_) (fun c28 => ?_)
          · refine lv_iload_n S.1 S.2.1 dX1_having_52 rfl (lv_at hl 1 rfl) ?_
            refine lv_istore_n (lv' := [(2, .int (nI v)), (3, .int (nI i)), (0, .ref (h 0)), (1, .int (nI k))]) S.1 S.2.1 dX1_having_53 rfl hl (by decide) rfl (fun ls hl => ?_)
            refine n_iinc (k := 1) (lv' := [(3, .int (nI (i + 1))), (2, .int (nI v)), (0, .ref (h 0)), (1, .int (nI k))]) S dX1_having_54 hl rfl (by decide) rfl (fun ls hl => ?_)
            refine lv_goto (tgt := 4) S.1 S.2.1 dX1_having_57 (by decide) ?_
            exact ih (i + 1) v (by omega) (by omega) (by rw [hv, hvc_s, if_neg (by omega)]) _ _ _ hw (lv_sub hl [0, 1, 2, 3] rfl)
          · refine lv_aload_n S.1 S.2.1 dX1_having_31 rfl (lv_at hl 2 rfl) ?_
            refine m_g1 S hw dX1_having_32 ?_
            refine lv_iload_n S.1 S.2.1 dX1_having_35 rfl (lv_at hl 0 rfl) ?_
            refine m_l1 S hw (by omega) dX1_having_36 ?_
            refine lv_iload_n S.1 S.2.1 dX1_having_37 rfl (lv_at hl 3 rfl) ?_
            refine n_icmp_ne (tgt := 52) S (by have := hI.2.1 i; omega) (by omega) dX1_having_38 (by decide) (fun c38 => ?_) (fun c38 => ?_)
            · refine lv_iload_n S.1 S.2.1 dX1_having_52 rfl (lv_at hl 1 rfl) ?_
              refine lv_istore_n (lv' := [(2, .int (nI v)), (3, .int (nI i)), (0, .ref (h 0)), (1, .int (nI k))]) S.1 S.2.1 dX1_having_53 rfl hl (by decide) rfl (fun ls hl => ?_)
              refine n_iinc (k := 1) (lv' := [(3, .int (nI (i + 1))), (2, .int (nI v)), (0, .ref (h 0)), (1, .int (nI k))]) S dX1_having_54 hl rfl (by decide) rfl (fun ls hl => ?_)
              refine lv_goto (tgt := 4) S.1 S.2.1 dX1_having_57 (by decide) ?_
              exact ih (i + 1) v (by omega) (by omega) (by rw [hv, hvc_s, if_neg (fun q => c38 q.2)]) _ _ _ hw (lv_sub hl [0, 1, 2, 3] rfl)
            · refine lv_iload_n S.1 S.2.1 dX1_having_41 rfl (lv_at hl 1 rfl) ?_
              refine lv_iconst (v := nI 1) S.1 S.2.1 dX1_having_42 (by decide) ?_
              refine lv_iload_n S.1 S.2.1 dX1_having_43 rfl (lv_at hl 0 rfl) ?_
              refine lv_bipush (v := nI 24) S.1 S.2.1 dX1_having_44 (by decide) ?_
              refine n_idiv S (by omega) (by omega) (by omega) dX1_having_46 ?_
              refine n_ishl S (by omega) dX1_having_47 ?_
              refine n_ior S dX1_having_48 ?_
              refine lv_goto (tgt := 53) S.1 S.2.1 dX1_having_49 (by decide) ?_
              refine lv_istore_n (lv' := [(2, .int (nI (v ||| (1 <<< (i / 24))))), (3, .int (nI i)), (0, .ref (h 0)), (1, .int (nI k))]) S.1 S.2.1 dX1_having_53 rfl hl (by decide) rfl (fun ls hl => ?_)
              refine n_iinc (k := 1) (lv' := [(3, .int (nI (i + 1))), (2, .int (nI (v ||| (1 <<< (i / 24))))), (0, .ref (h 0)), (1, .int (nI k))]) S dX1_having_54 hl rfl (by decide) rfl (fun ls hl => ?_)
              refine lv_goto (tgt := 4) S.1 S.2.1 dX1_having_57 (by decide) ?_
              exact ih (i + 1) (v ||| (1 <<< (i / 24))) (by omega) (by omega) (by rw [hv, hvc_s, if_pos ⟨c28, c38⟩]) _ _ _ hw (lv_sub hl [0, 1, 2, 3] rfl)
    refine lv_iconst (v := nI 0) S.1 S.2.1 dX1_having_0 (by decide) ?_
    refine lv_istore_n (lv' := [(2, .int (nI 0)), (0, .ref (h 0)), (1, .int (nI k))]) S.1 S.2.1 dX1_having_1 rfl hl (by decide) rfl (fun ls hl => ?_)
    refine lv_iconst (v := nI 0) S.1 S.2.1 dX1_having_2 (by decide) ?_
    refine lv_istore_n (lv' := [(3, .int (nI 0)), (2, .int (nI 0)), (0, .ref (h 0)), (1, .int (nI k))]) S.1 S.2.1 dX1_having_3 rfl hl (by decide) rfl (fun ls hl => ?_)
    exact lp 145 0 0 (by omega) (by omega) (by unfold hvc; rw [show 0 / 24 = 0 from rfl, show 0 % 24 = 0 from rfl, if_neg hit_0, Nat.or_zero]; rfl) _ _ _ hw (lv_sub hl [0, 1, 2, 3] rfl)
set_option maxHeartbeats 4000000 in
theorem mM_frequency (l : Launch) (D : va_G) (h : Nat → Nat) (d : Nat → ClassId) (u : gU) (b : Int32) (hI : mI u) : gMi l yX1_frequency cX1_frequency 4 .int (rk 0) D (mL h d) (mT d) [.ref (h 0), .int b] u (fun r u' => r = frF (u 0) (u 1) b ∧ u = u') := by
  refine gMi_of (by decide) (Nat.le_of_ble_eq_true rfl) ?_
  intro p e s m args below meth c A Q ls S hw hl hret
  have S : CallFix p m c cX1_frequency 4 s args lw_all RX1 := S
  have hl : lv_has ls 4 [(0, .ref (h 0)), (1, .int b)] := hl
  by_cases hb : b < 0
  · refine lv_iconst (v := nI 0) S.1 S.2.1 dX1_frequency_0 (by decide) ?_
    refine lv_istore_n (lv' := [(2, .int (nI 0)), (0, .ref (h 0)), (1, .int b)]) S.1 S.2.1 dX1_frequency_1 rfl hl (by decide) rfl (fun ls hl => ?_)
    refine lv_iconst (v := nI 0) S.1 S.2.1 dX1_frequency_2 (by decide) ?_
    refine lv_istore_n (lv' := [(3, .int (nI 0)), (2, .int (nI 0)), (0, .ref (h 0)), (1, .int b)]) S.1 S.2.1 dX1_frequency_3 rfl hl (by decide) rfl (fun ls hl => ?_)
    refine lv_iload_n S.1 S.2.1 dX1_frequency_4 rfl (lv_at hl 0 rfl) ?_
    refine lv_sipush (v := nI 144) S.1 S.2.1 dX1_frequency_5 (by decide) ?_
    refine n_icmp_ge (tgt := 55) S (by omega) (by omega) dX1_frequency_8 (by decide) (fun c8 => ?_) (fun c8 => ?_)
    · exact absurd c8 (by omega)
    · refine lv_iload_n S.1 S.2.1 dX1_frequency_11 rfl (lv_at hl 3 rfl) ?_
      refine lv_if_lt (tgt := 55) S.1 S.2.1 dX1_frequency_12 (by decide) (fun c12 => ?_) (fun c12 => ?_)
      · refine lv_iload_n S.1 S.2.1 dX1_frequency_55 rfl (lv_at hl 1 rfl) ?_
        exact hret _ _ dX1_frequency_56 rfl (⟨by unfold frF; rw [ix_neg hb, if_neg (by omega)], rfl⟩) hw
      · exact absurd hb c12
  · obtain ⟨k, hk', rfl⟩ := nI_of hb
    have lp : ∀ (n : Nat) (i v : Nat), (i ≤ 144) → (145 ≤ i + n) → (v = frc (u 0) (u 1) k i) → ∀ (H : Heap) (locs : List Loc) (ls : Array Slot), mW D h d A s H locs u → lv_has ls 4 [(3, .int (nI i)), (2, .int (nI v)), (0, .ref (h 0)), (1, .int (nI k))] → W p l e (rk 0) s m args below meth c H locs 0 0 Q (F0 m 4 ls []) := by
      intro n
      induction n with
      | zero =>
        intro i v hi hn hv
        exfalso; omega
      | succ n ih =>
        intro i v hi hn hv H locs ls hw hl
        refine lv_iload_n S.1 S.2.1 dX1_frequency_4 rfl (lv_at hl 0 rfl) ?_
        refine lv_sipush (v := nI 144) S.1 S.2.1 dX1_frequency_5 (by decide) ?_
        refine n_icmp_ge (tgt := 55) S (by omega) (by omega) dX1_frequency_8 (by decide) (fun c8 => ?_) (fun c8 => ?_)
        · refine lv_iload_n S.1 S.2.1 dX1_frequency_55 rfl (lv_at hl 1 rfl) ?_
          have hi144 : i = 144 := by omega
          refine hret _ _ dX1_frequency_56 rfl ⟨?_, rfl⟩ hw
          unfold frF
          by_cases hk : k < 12
          · rw [ix_in hk' hk, if_pos hk, hv, hi144, frc, show 144 / 24 = 6 from rfl, show 144 % 24 = 0 from rfl]
            rfl
          · rw [ix_nI hk', if_neg (by omega), hv, hi144, frc, show 144 / 24 = 6 from rfl, show 144 % 24 = 0 from rfl, frf_0 hI.2.1 (by omega), cnf_0 hI.2.1 (by omega)]
        · refine lv_iload_n S.1 S.2.1 dX1_frequency_11 rfl (lv_at hl 3 rfl) ?_
          refine n_if_lt (tgt := 55) S (by omega) dX1_frequency_12 (by decide) ?_
          refine lv_iload_n S.1 S.2.1 dX1_frequency_15 rfl (lv_at hl 0 rfl) ?_
          refine lv_bipush (v := nI 24) S.1 S.2.1 dX1_frequency_16 (by decide) ?_
          refine n_irem S (by omega) (by omega) (by omega) dX1_frequency_18 ?_
          refine lv_aload_n S.1 S.2.1 dX1_frequency_19 rfl (lv_at hl 2 rfl) ?_
          refine m_g0 S hw dX1_frequency_20 ?_
          refine lv_iload_n S.1 S.2.1 dX1_frequency_23 rfl (lv_at hl 0 rfl) ?_
          refine lv_bipush (v := nI 24) S.1 S.2.1 dX1_frequency_24 (by decide) ?_
          refine n_idiv S (by omega) (by omega) (by omega) dX1_frequency_26 ?_
          refine m_l0 S hw (by omega) dX1_frequency_27 ?_
          refine n_icmp_ge (tgt := 47) S (by omega) (by have := hI.1 (i / 24); omega) dX1_frequency_28 (by decide) (fun c28 => ?_) (fun c28 => ?_)
          · refine lv_iload_n S.1 S.2.1 dX1_frequency_47 rfl (lv_at hl 1 rfl) ?_
            refine lv_istore_n (lv' := [(2, .int (nI v)), (3, .int (nI i)), (0, .ref (h 0)), (1, .int (nI k))]) S.1 S.2.1 dX1_frequency_48 rfl hl (by decide) rfl (fun ls hl => ?_)
            refine n_iinc (k := 1) (lv' := [(3, .int (nI (i + 1))), (2, .int (nI v)), (0, .ref (h 0)), (1, .int (nI k))]) S dX1_frequency_49 hl rfl (by decide) rfl (fun ls hl => ?_)
            refine lv_goto (tgt := 4) S.1 S.2.1 dX1_frequency_52 (by decide) ?_
            exact ih (i + 1) v (by omega) (by omega) (by rw [hv, frc_s, bN_f (by omega), Nat.add_zero]) _ _ _ hw (lv_sub hl [0, 1, 2, 3] rfl)
          · refine lv_aload_n S.1 S.2.1 dX1_frequency_31 rfl (lv_at hl 2 rfl) ?_
            refine m_g1 S hw dX1_frequency_32 ?_
            refine lv_iload_n S.1 S.2.1 dX1_frequency_35 rfl (lv_at hl 0 rfl) ?_
            refine m_l1 S hw (by omega) dX1_frequency_36 ?_
            refine lv_iload_n S.1 S.2.1 dX1_frequency_37 rfl (lv_at hl 3 rfl) ?_
            refine n_icmp_ne (tgt := 47) S (by have := hI.2.1 i; omega) (by omega) dX1_frequency_38 (by decide) (fun c38 => ?_) (fun c38 => ?_)
            · refine lv_iload_n S.1 S.2.1 dX1_frequency_47 rfl (lv_at hl 1 rfl) ?_
              refine lv_istore_n (lv' := [(2, .int (nI v)), (3, .int (nI i)), (0, .ref (h 0)), (1, .int (nI k))]) S.1 S.2.1 dX1_frequency_48 rfl hl (by decide) rfl (fun ls hl => ?_)
              refine n_iinc (k := 1) (lv' := [(3, .int (nI (i + 1))), (2, .int (nI v)), (0, .ref (h 0)), (1, .int (nI k))]) S dX1_frequency_49 hl rfl (by decide) rfl (fun ls hl => ?_)
              refine lv_goto (tgt := 4) S.1 S.2.1 dX1_frequency_52 (by decide) ?_
              exact ih (i + 1) v (by omega) (by omega) (by rw [hv, frc_s, bN_f (fun q => c38 q.2), Nat.add_zero]) _ _ _ hw (lv_sub hl [0, 1, 2, 3] rfl)
            · refine lv_iload_n S.1 S.2.1 dX1_frequency_41 rfl (lv_at hl 1 rfl) ?_
              refine lv_iconst (v := nI 1) S.1 S.2.1 dX1_frequency_42 (by decide) ?_
              refine n_iadd S dX1_frequency_43 ?_
              refine lv_goto (tgt := 48) S.1 S.2.1 dX1_frequency_44 (by decide) ?_
              refine lv_istore_n (lv' := [(2, .int (nI (v + 1))), (3, .int (nI i)), (0, .ref (h 0)), (1, .int (nI k))]) S.1 S.2.1 dX1_frequency_48 rfl hl (by decide) rfl (fun ls hl => ?_)
              refine n_iinc (k := 1) (lv' := [(3, .int (nI (i + 1))), (2, .int (nI (v + 1))), (0, .ref (h 0)), (1, .int (nI k))]) S dX1_frequency_49 hl rfl (by decide) rfl (fun ls hl => ?_)
              refine lv_goto (tgt := 4) S.1 S.2.1 dX1_frequency_52 (by decide) ?_
              exact ih (i + 1) (v + 1) (by omega) (by omega) (by rw [hv, frc_s, bN_t ⟨c28, c38⟩]) _ _ _ hw (lv_sub hl [0, 1, 2, 3] rfl)
    refine lv_iconst (v := nI 0) S.1 S.2.1 dX1_frequency_0 (by decide) ?_
    refine lv_istore_n (lv' := [(2, .int (nI 0)), (0, .ref (h 0)), (1, .int (nI k))]) S.1 S.2.1 dX1_frequency_1 rfl hl (by decide) rfl (fun ls hl => ?_)
    refine lv_iconst (v := nI 0) S.1 S.2.1 dX1_frequency_2 (by decide) ?_
    refine lv_istore_n (lv' := [(3, .int (nI 0)), (2, .int (nI 0)), (0, .ref (h 0)), (1, .int (nI k))]) S.1 S.2.1 dX1_frequency_3 rfl hl (by decide) rfl (fun ls hl => ?_)
    exact lp 145 0 0 (by omega) (by omega) rfl _ _ _ hw (lv_sub hl [0, 1, 2, 3] rfl)
end
section
/-! working out in PhraseIndexModel, printed by gen/mwork.py -/
set_option maxRecDepth 100000
/-- the pile ahead of token i: at height p the token that takes that part -/
def SI (t : Nat → Nat) (n i : Nat) (st : Nat → Nat) : Prop := ∀ p, p < nd t i → i ≤ st p ∧ st p < n ∧ nd t (st p) = p + 1 ∧ ∀ j, i ≤ j → j < st p → p + 1 < nd t j
theorem SI_step {t : Nat → Nat} {n k : Nat} {st : Nat → Nat} (h : SI t n (k + 1) st) (hk : k < n) (h0 : 0 < nd t k) : SI t n k (va_up st (nd t k - 1) k) := by
  intro p hp
  by_cases c : p = nd t k - 1
  · rw [c, va_up_self]
    exact ⟨Nat.le_refl _, hk, by omega, fun j h1 h2 => absurd h2 (by omega)⟩
  · rw [va_up_ne _ _ c]
    have h1 := h p (by rw [nd_s]; omega)
    refine ⟨by omega, h1.2.1, h1.2.2.1, fun j h2 h3 => ?_⟩
    by_cases c2 : j = k
    · rw [c2]; omega
    · exact h1.2.2.2 j (by omega) h3
theorem SI_1 {t : Nat → Nat} {n k : Nat} {st : Nat → Nat} (h : SI t n (k + 1) st) (h0 : 0 < nd t (k + 1)) : st (nd t (k + 1) - 1) = k + 1 := by
  have h1 := h (nd t (k + 1) - 1) (by omega)
  refine Classical.byContradiction fun q => ?_
  have := h1.2.2.2 (k + 1) (Nat.le_refl _) (by omega)
  omega
theorem SI_2 {t : Nat → Nat} {n k : Nat} {st : Nat → Nat} (h : SI t n (k + 1) st) (h0 : 0 < nd t k) (ha : ar (t k) = 2) : isSec t k (st (nd t (k + 1) - 2)) ∧ st (nd t (k + 1) - 2) < n := by
  have e : nd t (k + 1) = nd t k + 1 := by rw [nd_s, ha]; omega
  have h1 := h (nd t (k + 1) - 2) (by omega)
  refine ⟨⟨?_, by omega, fun i h2 h3 => ?_⟩, h1.2.1⟩
  · refine Classical.byContradiction fun q => ?_
    have h2 : st (nd t (k + 1) - 2) = k + 1 := by omega
    rw [h2] at h1
    omega
  · have := h1.2.2.2 i (by omega) h3
    omega
set_option maxHeartbeats 4000000 in
theorem mM_work (l : Launch) (D : va_G) (h : Nat → Nat) (d : Nat → ClassId) (u : gU) (dd : Nat) (hdd : dd < 6) (hI : mI u) (hnd : nd (u 3) (u 2 0) = 0) : gMv l yX1_work cX1_work 11 (rk 2) D (mL h d) (mT d) [.ref (h 0), .int (nI dd)] u (fun u' => km u u' ∧ WI (u 0) (u 1) dd (u 3) (u 2 0) 0 (u' 4) (fun a => u' 4 (24 * a))) := by
  refine gMv_of (by decide) (Nat.le_of_ble_eq_true rfl) ?_
  intro p e s m args below meth c A Q ls S hw hl hret
  have S : CallFix p m c cX1_work 11 s args lw_all RX1 := S
  have hl : lv_has ls 11 [(0, .ref (h 0)), (1, .int (nI dd))] := hl
  have hq := hI.2.2
  have hq1 := hq.1
  refine lv_iconst (v := nI 0) S.1 S.2.1 dX1_work_0 (by decide) ?_
  refine lv_istore_n (lv' := [(2, .int (nI 0)), (0, .ref (h 0)), (1, .int (nI dd))]) S.1 S.2.1 dX1_work_1 rfl hl (by decide) rfl (fun ls hl => ?_)
  refine lv_aload_n S.1 S.2.1 dX1_work_2 rfl (lv_at hl 1 rfl) ?_
  refine m_g2 S hw dX1_work_3 ?_
  refine lv_iconst (v := nI 1) S.1 S.2.1 dX1_work_6 (by decide) ?_
  refine n_dec S dX1_work_7 ?_
  refine lv_istore_n (lv' := [(3, .int (pI (u 2 0))), (2, .int (nI 0)), (0, .ref (h 0)), (1, .int (nI dd))]) S.1 S.2.1 dX1_work_8 rfl hl (by decide) rfl (fun ls hl => ?_)
  have hl : lv_has ls 11 [(3, .int (pI (u 2 0))), (2, .int (nI (nd (u 3) (u 2 0)))), (0, .ref (h 0)), (1, .int (nI dd))] := by rw [hnd]; exact hl
  have lp : ∀ (n : Nat) (i : Nat) (uu : gU), (i ≤ u 2 0) → (i + 1 ≤ n) → (∀ a, a < 4 → uu a = u a) → (SI (u 3) (u 2 0) i (uu 5)) → (WI (u 0) (u 1) dd (u 3) (u 2 0) i (uu 4) (fun a => uu 4 (24 * a))) → ∀ (H : Heap) (locs : List Loc) (ls : Array Slot), mW D h d A s H locs uu → lv_has ls 11 [(2, .int (nI (nd (u 3) i))), (3, .int (pI i)), (0, .ref (h 0)), (1, .int (nI dd))] → W p l e (rk 2) s m args below meth c H locs 0 0 Q (F0 m 9 ls []) := by
    intro n
    induction n with
    | zero =>
      intro i uu hi hn hfr hst hW
      exfalso; omega
    | succ n ih =>
      intro i uu hi hn hfr hst hW H locs ls hw hl
      refine lv_iload_n S.1 S.2.1 dX1_work_9 rfl (lv_at hl 1 rfl) ?_
      refine p_if_lt (tgt := 288) S (by omega) dX1_work_10 (by decide) (fun c10 => ?_) (fun c10 => ?_)
      · exact hret _ dX1_work_288 (⟨hfr, by rw [c10] at hW; exact hW⟩) hw
      · obtain ⟨k, rfl⟩ : ∃ k, i = k + 1 := ⟨i - 1, by omega⟩
        rw [pI_s] at hl
        have h3 : uu 3 = u 3 := hfr 3 (by decide)
        have h3k : uu 3 k = u 3 k := by rw [h3]
        have ht24 := hq.2.1 k
        have hty := hq.2.2 k (by omega)
        have hz := hI.1 dd
        have hnn : nd (u 3) (k + 1) = nd (u 3) k - 1 + ar (u 3 k) := nd_s _ _
        have hark : ar (uu 3 k) = ar (u 3 k) := by rw [h3k]
        have har := ar_le (u 3 k)
        have hle := nd_le (t := u 3) k
        have hpos := hty.1
        have h3k24 : uu 3 k < 24 := by omega
        have tl : ∀ (u9 : gU), (∀ a, a < 4 → u9 a = u a) → (u9 5 = uu 5) → (WI (u 0) (u 1) dd (u 3) (u 2 0) k (u9 4) (fun a => u9 4 (24 * a))) → ∀ (H : Heap) (locs : List Loc) (ls : Array Slot), mW D h d A s H locs u9 → lv_has ls 11 [(2, .int (nI (nd (u 3) (k + 1)))), (5, .int (nI (ar (uu 3 k)))), (3, .int (nI k)), (0, .ref (h 0)), (1, .int (nI dd))] → W p l e (rk 2) s m args below meth c H locs 0 0 Q (F0 m 257 ls []) := by
          intro u9 hf9 h59 hW9 H locs ls hw hl
          refine lv_iload_n S.1 S.2.1 dX1_work_257 rfl (lv_at hl 0 rfl) ?_
          refine lv_iload S.1 S.2.1 dX1_work_258 (lv_at hl 1 rfl) ?_
          refine n_icmp_lt (tgt := 270) S (by omega) (by omega) dX1_work_260 (by decide) (fun c260 => ?_) (fun c260 => ?_)
          · exfalso; omega
          · refine lv_iload_n S.1 S.2.1 dX1_work_263 rfl (lv_at hl 0 rfl) ?_
            refine lv_iload S.1 S.2.1 dX1_work_264 (lv_at hl 1 rfl) ?_
            refine n_isub S (by omega) dX1_work_266 ?_
            refine lv_goto (tgt := 271) S.1 S.2.1 dX1_work_267 (by decide) ?_
            refine lv_istore_n (lv' := [(2, .int (nI ((nd (u 3) (k + 1)) - (ar (uu 3 k))))), (5, .int (nI (ar (uu 3 k)))), (3, .int (nI k)), (0, .ref (h 0)), (1, .int (nI dd))]) S.1 S.2.1 dX1_work_271 rfl hl (by decide) rfl (fun ls hl => ?_)
            refine lv_aload_n S.1 S.2.1 dX1_work_272 rfl (lv_at hl 3 rfl) ?_
            refine m_g5 S hw dX1_work_273 ?_
            refine lv_iload_n S.1 S.2.1 dX1_work_276 rfl (lv_at hl 0 rfl) ?_
            refine lv_iload_n S.1 S.2.1 dX1_work_277 rfl (lv_at hl 2 rfl) ?_
            refine m_s5 S hw (by omega) dX1_work_278 (fun u1 eu1 H locs hw => ?_)
            refine n_iinc (k := 0) (lv' := [(2, .int (nI ((nd (u 3) (k + 1)) - (ar (uu 3 k)) + 1))), (5, .int (nI (ar (uu 3 k)))), (3, .int (nI k)), (0, .ref (h 0)), (1, .int (nI dd))]) S dX1_work_279 hl rfl (by decide) rfl (fun ls hl => ?_)
            refine p_iinc (k := 2) (lv' := [(3, .int (pI k)), (2, .int (nI ((nd (u 3) (k + 1)) - (ar (uu 3 k)) + 1))), (5, .int (nI (ar (uu 3 k)))), (0, .ref (h 0)), (1, .int (nI dd))]) S dX1_work_282 hl rfl (by decide) rfl (fun ls hl => ?_)
            refine lv_goto (tgt := 9) S.1 S.2.1 dX1_work_285 (by decide) ?_
            have e2 : nd (u 3) (k + 1) - ar (uu 3 k) + 1 = nd (u 3) k := by omega
            rw [e2] at hl
            exact ih k u1 (by omega) (by omega) (fun a ha => by rw [eu1, gup_n _ _ _ (by omega)]; exact hf9 a ha) (by rw [eu1, gup_s, h59, show nd (u 3) (k + 1) - ar (uu 3 k) = nd (u 3) k - 1 by omega]; exact SI_step hst (by omega) hpos) (by rw [show u1 4 = u9 4 by rw [eu1, gup_n _ _ _ (by decide)]]; exact hW9) _ _ _ hw (lv_sub hl [1, 0, 3, 4] rfl)
        refine lv_aload_n S.1 S.2.1 dX1_work_13 rfl (lv_at hl 2 rfl) ?_
        refine m_g3 S hw dX1_work_14 ?_
        refine lv_iload_n S.1 S.2.1 dX1_work_17 rfl (lv_at hl 1 rfl) ?_
        refine m_l3 S hw (by omega) dX1_work_18 ?_
        refine lv_istore (lv' := [(4, .int (nI (uu 3 k))), (2, .int (nI (nd (u 3) (k + 1)))), (3, .int (nI k)), (0, .ref (h 0)), (1, .int (nI dd))]) S.1 S.2.1 dX1_work_19 hl (by decide) rfl (fun ls hl => ?_)
        refine lv_aload_n S.1 S.2.1 dX1_work_21 rfl (lv_at hl 3 rfl) ?_
        refine lv_iload S.1 S.2.1 dX1_work_22 (lv_at hl 0 rfl) ?_
        refine g_calli (As := [.int (nI (uu 3 k))]) (rest := []) S hw (b := h 0) rfl rfl (mM_parts l D h d uu (uu 3 k) h3k24) (cw_X1_X1_parts S.2.2.2.2 ⟨by decide, by decide⟩) rfl hl.1 rfl (Nat.le_of_ble_eq_true rfl) dX1_work_24 ⟨Nat.zero_le _, Nat.zero_le _⟩ (fun r2 u2 H locs hp2 hw => ?_)
        obtain ⟨rfl, rfl⟩ := hp2
        refine lv_istore (lv' := [(5, .int (nI (ar (uu 3 k)))), (4, .int (nI (uu 3 k))), (2, .int (nI (nd (u 3) (k + 1)))), (3, .int (nI k)), (0, .ref (h 0)), (1, .int (nI dd))]) S.1 S.2.1 dX1_work_27 hl (by decide) rfl (fun ls hl => ?_)
        have jm : ∀ (sv tv : Nat), (sv < 12) → (tv < 12) → (0 < ar (u 3 k) → sv = k + 1) → (ar (u 3 k) = 2 → isSec (u 3) k tv ∧ tv < u 2 0) → ∀ (H : Heap) (locs : List Loc) (ls : Array Slot), mW D h d A s H locs uu → lv_has ls 11 [(7, .int (nI tv)), (6, .int (nI sv)), (5, .int (nI (ar (uu 3 k)))), (4, .int (nI (uu 3 k))), (2, .int (nI (nd (u 3) (k + 1)))), (3, .int (nI k)), (0, .ref (h 0)), (1, .int (nI dd))] → W p l e (rk 2) s m args below meth c H locs 0 0 Q (F0 m 67 ls []) := by
          intro sv tv hs12 ht12 hsA hsB H locs ls hw hl
          refine lv_iload S.1 S.2.1 dX1_work_67 (lv_at hl 3 rfl) ?_
          refine lv_bipush (v := nI 20) S.1 S.2.1 dX1_work_69 (by decide) ?_
          refine n_icmp_lt (tgt := 216) S (by omega) (by omega) dX1_work_71 (by decide) (fun c71 => ?_) (fun c71 => ?_)
          · have kidA : 12 ≤ u 3 k → k + 1 < u 2 0 ∧ ((kd (u 3 k) = 1 ∧ 20 ≤ u 3 (k + 1)) ∨ (kd (u 3 k) = 2 ∧ u 3 (k + 1) ≤ 18)) := fun q => ⟨kid_lt hq hnd (by omega) (ar_1 q), kid1 hq (kid_lt hq hnd (by omega) (ar_1 q)) (ar_1 q)⟩
            have kidB : 12 ≤ u 3 k → u 3 k ≤ 21 → k + 1 < tv ∧ tv < u 2 0 ∧ sec (u 3) k = tv ∧ ((kd (u 3 k) = 1 ∧ 20 ≤ u 3 tv) ∨ (kd (u 3 k) = 2 ∧ u 3 tv ≤ 18)) := fun q q2 => by
              have z1 := hsB (ar_2 q q2)
              exact ⟨z1.1.1, z1.2, sec_eq z1.1, kid2 hq z1.1 z1.2 (ar_2 q q2)⟩
            have rA : 12 ≤ u 3 k → u 3 (k + 1) ≤ 18 → ∀ b, b < 24 → uu 4 (24 * (k + 1) + b) = EV (u 0) (u 1) dd (u 3) (u 2 0) (u 2 0 - (k + 1)) (k + 1) b := fun q q1 b hb => (hW (k + 1) (Nat.le_refl _) (kidA q).1).1 q1 b hb
            have tA : 12 ≤ u 3 k → 20 ≤ u 3 (k + 1) → uu 4 (24 * (k + 1)) = EV (u 0) (u 1) dd (u 3) (u 2 0) (u 2 0 - (k + 1)) (k + 1) 0 := fun q q1 => (hW (k + 1) (Nat.le_refl _) (kidA q).1).2 q1
            have rB : 12 ≤ u 3 k → u 3 k ≤ 21 → u 3 tv ≤ 18 → ∀ b, b < 24 → uu 4 (24 * tv + b) = EV (u 0) (u 1) dd (u 3) (u 2 0) (u 2 0 - (k + 1)) tv b := fun q q2 q1 b hb => (hW tv (by have := kidB q q2; omega) (kidB q q2).2.1).1 q1 b hb
            have tB : 12 ≤ u 3 k → u 3 k ≤ 21 → 20 ≤ u 3 tv → uu 4 (24 * tv) = EV (u 0) (u 1) dd (u 3) (u 2 0) (u 2 0 - (k + 1)) tv 0 := fun q q2 q1 => (hW tv (by have := kidB q q2; omega) (kidB q q2).2.1).2 q1
            have q18 : u 3 k ≤ 18 := by omega
            have hs1 : 12 ≤ u 3 k → sv = k + 1 := fun q => hsA (ar_1 q)
            have hm1 : 12 ≤ u 3 k → u 3 (k + 1) ≤ 18 := fun q => by have z1 := (kidA q).2; rw [kd_2 (Or.inl q18)] at z1; omega
            have hm2 : 12 ≤ u 3 k → u 3 tv ≤ 18 := fun q => by have z1 := (kidB q (by omega)).2.2.2; rw [kd_2 (Or.inl q18)] at z1; omega
            refine lv_iconst (v := nI 0) S.1 S.2.1 dX1_work_216 (by decide) ?_
            refine lv_istore (lv' := [(8, .int (nI 0)), (7, .int (nI tv)), (6, .int (nI sv)), (5, .int (nI (ar (uu 3 k)))), (4, .int (nI (uu 3 k))), (2, .int (nI (nd (u 3) (k + 1)))), (3, .int (nI k)), (0, .ref (h 0)), (1, .int (nI dd))]) S.1 S.2.1 dX1_work_217 hl (by decide) rfl (fun ls hl => ?_)
            have lps : ∀ (nb : Nat) (b : Nat) (vv : gU), (b ≤ 24) → (25 ≤ b + nb) → (RS 4 uu vv k b (sav (u 0) (u 1) dd (u 3 k) (fun b => uu 4 (24 * sv + b)) (fun b => uu 4 (24 * tv + b)))) → ∀ (H : Heap) (locs : List Loc) (ls : Array Slot), mW D h d A s H locs vv → lv_has ls 11 [(8, .int (nI b)), (7, .int (nI tv)), (6, .int (nI sv)), (5, .int (nI (ar (uu 3 k)))), (4, .int (nI (uu 3 k))), (2, .int (nI (nd (u 3) (k + 1)))), (3, .int (nI k)), (0, .ref (h 0)), (1, .int (nI dd))] → W p l e (rk 2) s m args below meth c H locs 0 0 Q (F0 m 219 ls []) := by
              intro nb
              induction nb with
              | zero =>
                intro b vv hb hnb hr
                exfalso; omega
              | succ nb ihb =>
                intro b vv hb hnb hr H locs ls hw hl
                have hkm : km u vv := fun a ha => by rw [hr.1 a (by omega)]; exact hfr a ha
                have o1 : 12 ≤ u 3 k → ∀ c, vv 4 (24 * sv + c) = uu 4 (24 * sv + c) := fun q c => RS_out hr (by have := hs1 q; omega)
                have o2 : 12 ≤ u 3 k → ∀ c, vv 4 (24 * tv + c) = uu 4 (24 * tv + c) := fun q c => RS_out hr (by have := kidB q (by omega); omega)
                have w1 : 12 ≤ u 3 k → ∀ c, c < 24 → uu 4 (24 * sv + c) = EV (u 0) (u 1) dd (u 3) (u 2 0) (u 2 0 - (k + 1)) (k + 1) c := fun q c hc => by rw [hs1 q]; exact rA q (hm1 q) c hc
                have w2 : 12 ≤ u 3 k → ∀ c, c < 24 → uu 4 (24 * tv + c) = EV (u 0) (u 1) dd (u 3) (u 2 0) (u 2 0 - (k + 1)) tv c := fun q c hc => rB q (by omega) (hm2 q) c hc
                refine lv_iload S.1 S.2.1 dX1_work_219 (lv_at hl 0 rfl) ?_
                refine lv_bipush (v := nI 24) S.1 S.2.1 dX1_work_221 (by decide) ?_
                refine n_icmp_ge (tgt := 257) S (by omega) (by omega) dX1_work_223 (by decide) (fun c223 => ?_) (fun c223 => ?_)
                · have hWn : WI (u 0) (u 1) dd (u 3) (u 2 0) k (vv 4) (fun a => vv 4 (24 * a)) := by
                    rw [show b = 24 by omega] at hr
                    refine WI_step hW (by omega) (fun a c ha => RS_out hr (by omega)) (fun a ha => RS_out hr (by omega)) (fun _ c hc => ?_) (fun q => by omega)
                    rw [RS_in hr hc]
                    unfold sav
                    by_cases c12 : u 3 k < 12
                    · rw [if_pos c12, rwv_w c12]
                    · rw [if_neg c12, (kidB (by omega) (by omega)).2.2.1]
                      exact rwv_b (by omega) q18 hc (w1 (by omega)) (w2 (by omega))
                  exact tl vv hkm (by rw [hr.1 5 (by decide)]) hWn _ _ _ hw (lv_sub hl [5, 3, 6, 7, 8] rfl)
                · refine lv_aload_n S.1 S.2.1 dX1_work_226 rfl (lv_at hl 7 rfl) ?_
                  refine m_g4 S hw dX1_work_227 ?_
                  refine lv_bipush (v := nI 24) S.1 S.2.1 dX1_work_230 (by decide) ?_
                  refine lv_iload_n S.1 S.2.1 dX1_work_232 rfl (lv_at hl 6 rfl) ?_
                  refine n_imul S dX1_work_233 ?_
                  refine lv_iload S.1 S.2.1 dX1_work_234 (lv_at hl 0 rfl) ?_
                  refine n_iadd S dX1_work_236 ?_
                  refine lv_aload_n S.1 S.2.1 dX1_work_237 rfl (lv_at hl 7 rfl) ?_
                  refine lv_iload S.1 S.2.1 dX1_work_238 (lv_at hl 4 rfl) ?_
                  refine lv_iload S.1 S.2.1 dX1_work_240 (lv_at hl 2 rfl) ?_
                  refine lv_iload S.1 S.2.1 dX1_work_242 (lv_at hl 1 rfl) ?_
                  refine lv_iload_n S.1 S.2.1 dX1_work_244 rfl (lv_at hl 8 rfl) ?_
                  refine lv_iload S.1 S.2.1 dX1_work_245 (lv_at hl 0 rfl) ?_
                  refine g_calli (As := [.int (nI (uu 3 k)), .int (nI sv), .int (nI tv), .int (nI dd), .int (nI b)]) (rest := [.int (nI ((24 * k) + b)), .ref (h 5)]) S hw (b := h 0) rfl rfl (mM_spansAt l D h d vv (uu 3 k) sv tv dd b (mI_km hI hkm) (by omega) hdd (by omega) (fun _ => ⟨hs12, ht12⟩) (fun q c hc => by rw [o1 (by omega) c, w1 (by omega) c hc]; exact EV_lt hz _ _ _) (fun q c hc => by rw [o2 (by omega) c, w2 (by omega) c hc]; exact EV_lt hz _ _ _)) (cw_X1_X1_spansAt S.2.2.2.2 ⟨by decide, by decide⟩) rfl hl.1 rfl (Nat.le_of_ble_eq_true rfl) dX1_work_247 ⟨Nat.zero_le _, Nat.zero_le _⟩ (fun r3 u3 H locs hp3 hw => ?_)
                  obtain ⟨rfl, rfl⟩ := hp3
                  have hval : sav (vv 0) (vv 1) dd (uu 3 k) (fun b => vv 4 (24 * sv + b)) (fun b => vv 4 (24 * tv + b)) b = sav (u 0) (u 1) dd (u 3 k) (fun b => uu 4 (24 * sv + b)) (fun b => uu 4 (24 * tv + b)) b := by
                    rw [hkm 0 (by decide), hkm 1 (by decide), h3k]
                    unfold sav
                    by_cases c : u 3 k < 12
                    · rw [if_pos c, if_pos c]
                    · rw [if_neg c, if_neg c, funext (o1 (by omega)), funext (o2 (by omega))]
                  refine m_s4 S hw (by omega) dX1_work_250 (fun u4 eu4 H locs hw => ?_)
                  refine n_iinc (k := 0) (lv' := [(8, .int (nI (b + 1))), (7, .int (nI tv)), (6, .int (nI sv)), (5, .int (nI (ar (uu 3 k)))), (4, .int (nI (uu 3 k))), (2, .int (nI (nd (u 3) (k + 1)))), (3, .int (nI k)), (0, .ref (h 0)), (1, .int (nI dd))]) S dX1_work_251 hl rfl (by decide) rfl (fun ls hl => ?_)
                  refine lv_goto (tgt := 219) S.1 S.2.1 dX1_work_254 (by decide) ?_
                  exact ihb (b + 1) u4 (by omega) (by omega) (RS_s hr (by rw [eu4, hval])) _ _ _ hw (lv_sub hl [0, 1, 2, 3, 4, 5, 6, 7, 8] rfl)
            exact lps 25 0 uu (by omega) (by omega) (RS_0 _ _ _ _) _ _ _ hw (lv_sub hl [0, 1, 2, 3, 4, 5, 6, 7, 8] rfl)
          · have kidA : 12 ≤ u 3 k → k + 1 < u 2 0 ∧ ((kd (u 3 k) = 1 ∧ 20 ≤ u 3 (k + 1)) ∨ (kd (u 3 k) = 2 ∧ u 3 (k + 1) ≤ 18)) := fun q => ⟨kid_lt hq hnd (by omega) (ar_1 q), kid1 hq (kid_lt hq hnd (by omega) (ar_1 q)) (ar_1 q)⟩
            have kidB : 12 ≤ u 3 k → u 3 k ≤ 21 → k + 1 < tv ∧ tv < u 2 0 ∧ sec (u 3) k = tv ∧ ((kd (u 3 k) = 1 ∧ 20 ≤ u 3 tv) ∨ (kd (u 3 k) = 2 ∧ u 3 tv ≤ 18)) := fun q q2 => by
              have z1 := hsB (ar_2 q q2)
              exact ⟨z1.1.1, z1.2, sec_eq z1.1, kid2 hq z1.1 z1.2 (ar_2 q q2)⟩
            have rA : 12 ≤ u 3 k → u 3 (k + 1) ≤ 18 → ∀ b, b < 24 → uu 4 (24 * (k + 1) + b) = EV (u 0) (u 1) dd (u 3) (u 2 0) (u 2 0 - (k + 1)) (k + 1) b := fun q q1 b hb => (hW (k + 1) (Nat.le_refl _) (kidA q).1).1 q1 b hb
            have tA : 12 ≤ u 3 k → 20 ≤ u 3 (k + 1) → uu 4 (24 * (k + 1)) = EV (u 0) (u 1) dd (u 3) (u 2 0) (u 2 0 - (k + 1)) (k + 1) 0 := fun q q1 => (hW (k + 1) (Nat.le_refl _) (kidA q).1).2 q1
            have rB : 12 ≤ u 3 k → u 3 k ≤ 21 → u 3 tv ≤ 18 → ∀ b, b < 24 → uu 4 (24 * tv + b) = EV (u 0) (u 1) dd (u 3) (u 2 0) (u 2 0 - (k + 1)) tv b := fun q q2 q1 b hb => (hW tv (by have := kidB q q2; omega) (kidB q q2).2.1).1 q1 b hb
            have tB : 12 ≤ u 3 k → u 3 k ≤ 21 → 20 ≤ u 3 tv → uu 4 (24 * tv) = EV (u 0) (u 1) dd (u 3) (u 2 0) (u 2 0 - (k + 1)) tv 0 := fun q q2 q1 => (hW tv (by have := kidB q q2; omega) (kidB q q2).2.1).2 q1
            have q20 : 20 ≤ u 3 k := by omega
            have hs1 : sv = k + 1 := hsA (ar_1 (by omega))
            subst hs1
            have kA := kidA (by omega)
            have hn1 : u 3 k ≤ 22 → 20 ≤ u 3 (k + 1) := fun q => by have z1 := kA.2; rw [kd_1 q20 q] at z1; omega
            have hn2 : u 3 k ≤ 21 → 20 ≤ u 3 tv := fun q => by have z1 := (kidB (by omega) q).2.2.2; rw [kd_1 q20 (by omega)] at z1; omega
            have hn3 : u 3 k = 23 → u 3 (k + 1) ≤ 18 := fun q => by have z1 := kA.2; rw [kd_2 (Or.inr q)] at z1; omega
            have hone : uu 4 (24 * (k + 1)) < 2 ^ 24 := by
              by_cases c : u 3 k ≤ 22
              · rw [tA (by omega) (hn1 c)]; exact EV_lt hz _ _ _
              · have z1 := rA (by omega) (hn3 (by omega)) 0 (by omega)
                rw [Nat.add_zero] at z1
                rw [z1]; exact EV_lt hz _ _ _
            have htwo : u 3 k ≤ 21 → uu 4 (24 * tv) < 2 ^ 24 := fun q => by rw [tB (by omega) q (hn2 q)]; exact EV_lt hz _ _ _
            have hcd : cdv (u 3 k) (uu 4 (24 * (k + 1))) (uu 4 (24 * tv)) (fun b => uu 4 (24 * (k + 1) + b)) = rwv (u 0) (u 1) dd (u 3) (EV (u 0) (u 1) dd (u 3) (u 2 0) (u 2 0 - (k + 1))) k (sec (u 3) k) 0 := rwv_d q20 (by omega) (fun q => tA (by omega) (hn1 q)) (fun q => by rw [(kidB (by omega) q).2.2.1]; exact tB (by omega) q (hn2 q)) (fun q => rA (by omega) (hn3 q))
            have jn : ∀ (on : Nat), (on < 2) → (on = cdv (u 3 k) (uu 4 (24 * (k + 1))) (uu 4 (24 * tv)) (fun b => uu 4 (24 * (k + 1) + b))) → ∀ (H : Heap) (locs : List Loc) (ls : Array Slot), mW D h d A s H locs uu → lv_has ls 11 [(2, .int (nI (nd (u 3) (k + 1)))), (5, .int (nI (ar (uu 3 k)))), (3, .int (nI k)), (0, .ref (h 0)), (1, .int (nI dd))] → W p l e (rk 2) s m args below meth c H locs 0 0 Q (F0 m 192 ls [.int (nI on)]) := by
              intro on hon2 hon H locs ls hw hl
              refine lv_istore (lv' := [(10, .int (nI on)), (2, .int (nI (nd (u 3) (k + 1)))), (5, .int (nI (ar (uu 3 k)))), (3, .int (nI k)), (0, .ref (h 0)), (1, .int (nI dd))]) S.1 S.2.1 dX1_work_192 hl (by decide) rfl (fun ls hl => ?_)
              refine lv_aload_n S.1 S.2.1 dX1_work_194 rfl (lv_at hl 4 rfl) ?_
              refine m_g4 S hw dX1_work_195 ?_
              refine lv_bipush (v := nI 24) S.1 S.2.1 dX1_work_198 (by decide) ?_
              refine lv_iload_n S.1 S.2.1 dX1_work_200 rfl (lv_at hl 3 rfl) ?_
              refine n_imul S dX1_work_201 ?_
              refine lv_iload S.1 S.2.1 dX1_work_202 (lv_at hl 0 rfl) ?_
              refine n_if_eq (tgt := 211) S (by omega) dX1_work_204 (by decide) (fun c204 => ?_) (fun c204 => ?_)
              · refine lv_iconst (v := nI 0) S.1 S.2.1 dX1_work_211 (by decide) ?_
                refine m_s4 S hw (by omega) dX1_work_212 (fun u5 eu5 H locs hw => ?_)
                refine lv_goto (tgt := 257) S.1 S.2.1 dX1_work_213 (by decide) ?_
                have hWn : WI (u 0) (u 1) dd (u 3) (u 2 0) k (u5 4) (fun a => u5 4 (24 * a)) := by
                  refine WI_step hW (by omega) (fun a c ha => by rw [eu5, gup_s, va_up_ne _ _ (by omega)]) (fun a ha => by show u5 4 (24 * a) = uu 4 (24 * a); rw [eu5, gup_s, va_up_ne _ _ (by omega)]) (fun q => by omega) (fun _ => ?_)
                  show u5 4 (24 * k) = _
                  rw [eu5, gup_s, va_up_self, ← hcd, ← hon]
                  omega
                exact tl u5 (fun a ha => by rw [eu5, gup_n _ _ _ (by omega)]; exact hfr a ha) (by rw [eu5, gup_n _ _ _ (by decide)]) hWn _ _ _ hw (lv_sub hl [1, 2, 3, 4, 5] rfl)
              · refine lv_iconst (v := nI 1) S.1 S.2.1 dX1_work_207 (by decide) ?_
                refine lv_goto (tgt := 212) S.1 S.2.1 dX1_work_208 (by decide) ?_
                refine m_s4 S hw (by omega) dX1_work_212 (fun u6 eu6 H locs hw => ?_)
                refine lv_goto (tgt := 257) S.1 S.2.1 dX1_work_213 (by decide) ?_
                have hWn : WI (u 0) (u 1) dd (u 3) (u 2 0) k (u6 4) (fun a => u6 4 (24 * a)) := by
                  refine WI_step hW (by omega) (fun a c ha => by rw [eu6, gup_s, va_up_ne _ _ (by omega)]) (fun a ha => by show u6 4 (24 * a) = uu 4 (24 * a); rw [eu6, gup_s, va_up_ne _ _ (by omega)]) (fun q => by omega) (fun _ => ?_)
                  show u6 4 (24 * k) = _
                  rw [eu6, gup_s, va_up_self, ← hcd, ← hon]
                  omega
                exact tl u6 (fun a ha => by rw [eu6, gup_n _ _ _ (by omega)]; exact hfr a ha) (by rw [eu6, gup_n _ _ _ (by decide)]) hWn _ _ _ hw (lv_sub hl [1, 2, 3, 4, 5] rfl)
            refine lv_aload_n S.1 S.2.1 dX1_work_74 rfl (lv_at hl 6 rfl) ?_
            refine m_g4 S hw dX1_work_75 ?_
            refine lv_bipush (v := nI 24) S.1 S.2.1 dX1_work_78 (by decide) ?_
            refine lv_iload S.1 S.2.1 dX1_work_80 (lv_at hl 1 rfl) ?_
            refine n_imul S dX1_work_82 ?_
            refine m_l4 S hw (by omega) dX1_work_83 ?_
            refine lv_iconst (v := nI 1) S.1 S.2.1 dX1_work_84 (by decide) ?_
            refine n_icmp_ne (tgt := 92) S (by omega) (by omega) dX1_work_85 (by decide) (fun c85 => ?_) (fun c85 => ?_)
            · refine lv_iconst (v := nI 0) S.1 S.2.1 dX1_work_92 (by decide) ?_
              refine lv_istore (lv' := [(8, .int (nI 0)), (7, .int (nI tv)), (6, .int (nI (k + 1))), (5, .int (nI (ar (uu 3 k)))), (4, .int (nI (uu 3 k))), (2, .int (nI (nd (u 3) (k + 1)))), (3, .int (nI k)), (0, .ref (h 0)), (1, .int (nI dd))]) S.1 S.2.1 dX1_work_93 hl (by decide) rfl (fun ls hl => ?_)
              refine lv_aload_n S.1 S.2.1 dX1_work_95 rfl (lv_at hl 7 rfl) ?_
              refine m_g4 S hw dX1_work_96 ?_
              refine lv_bipush (v := nI 24) S.1 S.2.1 dX1_work_99 (by decide) ?_
              refine lv_iload S.1 S.2.1 dX1_work_101 (lv_at hl 1 rfl) ?_
              refine n_imul S dX1_work_103 ?_
              refine m_l4 S hw (by omega) dX1_work_104 ?_
              refine lv_iconst (v := nI 1) S.1 S.2.1 dX1_work_105 (by decide) ?_
              refine lv_icmp_ne (tgt := 113) S.1 S.2.1 dX1_work_106 (by decide) (fun c106 => ?_) (fun c106 => ?_)
              · refine lv_iconst (v := nI 0) S.1 S.2.1 dX1_work_113 (by decide) ?_
                refine lv_istore (lv' := [(9, .int (nI 0)), (8, .int (nI 0)), (7, .int (nI tv)), (6, .int (nI (k + 1))), (5, .int (nI (ar (uu 3 k)))), (4, .int (nI (uu 3 k))), (2, .int (nI (nd (u 3) (k + 1)))), (3, .int (nI k)), (0, .ref (h 0)), (1, .int (nI dd))]) S.1 S.2.1 dX1_work_114 hl (by decide) rfl (fun ls hl => ?_)
                refine lv_iload S.1 S.2.1 dX1_work_116 (lv_at hl 5 rfl) ?_
                refine lv_bipush (v := nI 20) S.1 S.2.1 dX1_work_118 (by decide) ?_
                refine n_icmp_ne (tgt := 141) S (by omega) (by omega) dX1_work_120 (by decide) (fun c120 => ?_) (fun c120 => ?_)
                · refine lv_iload S.1 S.2.1 dX1_work_141 (lv_at hl 5 rfl) ?_
                  refine lv_bipush (v := nI 21) S.1 S.2.1 dX1_work_143 (by decide) ?_
                  refine n_icmp_ne (tgt := 166) S (by omega) (by omega) dX1_work_145 (by decide) (fun c145 => ?_) (fun c145 => ?_)
                  · refine lv_iload S.1 S.2.1 dX1_work_166 (lv_at hl 5 rfl) ?_
                    refine lv_bipush (v := nI 22) S.1 S.2.1 dX1_work_168 (by decide) ?_
                    refine n_icmp_ne (tgt := 186) S (by omega) (by omega) dX1_work_170 (by decide) (fun c170 => ?_) (fun c170 => ?_)
                    · refine lv_aload_n S.1 S.2.1 dX1_work_186 rfl (lv_at hl 8 rfl) ?_
                      refine lv_iload S.1 S.2.1 dX1_work_187 (lv_at hl 3 rfl) ?_
                      refine g_calli (As := [.int (nI (k + 1))]) (rest := []) S hw (b := h 0) rfl rfl (mM_some l D h d uu (k + 1) (by omega) (fun b hb => by show uu 4 (24 * (k + 1) + b) < _; rw [rA (by omega) (hn3 (by omega)) b hb]; exact EV_lt hz _ _ _)) (cw_X1_X1_some S.2.2.2.2 ⟨by decide, by decide⟩) rfl hl.1 rfl (Nat.le_of_ble_eq_true rfl) dX1_work_189 ⟨Nat.zero_le _, Nat.zero_le _⟩ (fun r7 u7 H locs hp7 hw => ?_)
                      obtain ⟨rfl, rfl⟩ := hp7
                      exact jn (bN (anf (fun b => uu 4 (24 * (k + 1) + b)) 24 ≠ 0)) (bN_2 _) (by unfold cdv; rw [if_neg (by omega), if_neg (by omega), if_neg (by omega)]) _ _ _ hw (lv_sub hl [6, 4, 7, 8, 9] rfl)
                    · refine lv_iload S.1 S.2.1 dX1_work_173 (lv_at hl 1 rfl) ?_
                      refine n_if_ne (tgt := 182) S (by decide) dX1_work_175 (by decide) (fun c => absurd c (by decide)) (fun _ => ?_)
                      refine lv_iconst (v := nI 1) S.1 S.2.1 dX1_work_178 (by decide) ?_
                      refine lv_goto (tgt := 192) S.1 S.2.1 dX1_work_179 (by decide) ?_
                      exact jn 1 (by decide) (by unfold cdv; rw [if_neg (by omega), if_neg (by omega), if_pos (by omega)]; exact (bN_t c85).symm) _ _ _ hw (lv_sub hl [6, 4, 7, 8, 9] rfl)
                  · refine lv_iload S.1 S.2.1 dX1_work_148 (lv_at hl 1 rfl) ?_
                    refine n_if_ne (tgt := 158) S (by decide) dX1_work_150 (by decide) (fun c => absurd c (by decide)) (fun _ => ?_)
                    refine lv_iload S.1 S.2.1 dX1_work_153 (lv_at hl 0 rfl) ?_
                    refine n_if_eq (tgt := 162) S (by decide) dX1_work_155 (by decide) (fun _ => ?_) (fun c => absurd c (by decide))
                    refine lv_iconst (v := nI 0) S.1 S.2.1 dX1_work_162 (by decide) ?_
                    refine lv_goto (tgt := 192) S.1 S.2.1 dX1_work_163 (by decide) ?_
                    exact jn 0 (by decide) (by unfold cdv; rw [if_neg (by omega), if_pos (by omega)]; have h2 := htwo (by omega); have z2 : (nI (uu 4 (24 * tv)) = nI 1 ↔ uu 4 (24 * tv) = 1) := nI_eq (by omega) (by decide); exact (bN_f (by rw [← z2]; exact fun q => q.elim c85 c106)).symm) _ _ _ hw (lv_sub hl [6, 4, 7, 8, 9] rfl)
                · refine lv_iload S.1 S.2.1 dX1_work_123 (lv_at hl 1 rfl) ?_
                  refine n_if_eq (tgt := 137) S (by decide) dX1_work_125 (by decide) (fun _ => ?_) (fun c => absurd c (by decide))
                  refine lv_iconst (v := nI 0) S.1 S.2.1 dX1_work_137 (by decide) ?_
                  refine lv_goto (tgt := 192) S.1 S.2.1 dX1_work_138 (by decide) ?_
                  exact jn 0 (by decide) (by unfold cdv; rw [if_pos (by omega)]; have h2 := htwo (by omega); have z2 : (nI (uu 4 (24 * tv)) = nI 1 ↔ uu 4 (24 * tv) = 1) := nI_eq (by omega) (by decide); exact (bN_f (by rw [← z2]; exact fun q => c85 q.1)).symm) _ _ _ hw (lv_sub hl [6, 4, 7, 8, 9] rfl)
              · refine lv_iconst (v := nI 1) S.1 S.2.1 dX1_work_109 (by decide) ?_
                refine lv_goto (tgt := 114) S.1 S.2.1 dX1_work_110 (by decide) ?_
                refine lv_istore (lv' := [(9, .int (nI 1)), (8, .int (nI 0)), (7, .int (nI tv)), (6, .int (nI (k + 1))), (5, .int (nI (ar (uu 3 k)))), (4, .int (nI (uu 3 k))), (2, .int (nI (nd (u 3) (k + 1)))), (3, .int (nI k)), (0, .ref (h 0)), (1, .int (nI dd))]) S.1 S.2.1 dX1_work_114 hl (by decide) rfl (fun ls hl => ?_)
                refine lv_iload S.1 S.2.1 dX1_work_116 (lv_at hl 5 rfl) ?_
                refine lv_bipush (v := nI 20) S.1 S.2.1 dX1_work_118 (by decide) ?_
                refine n_icmp_ne (tgt := 141) S (by omega) (by omega) dX1_work_120 (by decide) (fun c120 => ?_) (fun c120 => ?_)
                · refine lv_iload S.1 S.2.1 dX1_work_141 (lv_at hl 5 rfl) ?_
                  refine lv_bipush (v := nI 21) S.1 S.2.1 dX1_work_143 (by decide) ?_
                  refine n_icmp_ne (tgt := 166) S (by omega) (by omega) dX1_work_145 (by decide) (fun c145 => ?_) (fun c145 => ?_)
                  · refine lv_iload S.1 S.2.1 dX1_work_166 (lv_at hl 5 rfl) ?_
                    refine lv_bipush (v := nI 22) S.1 S.2.1 dX1_work_168 (by decide) ?_
                    refine n_icmp_ne (tgt := 186) S (by omega) (by omega) dX1_work_170 (by decide) (fun c170 => ?_) (fun c170 => ?_)
                    · refine lv_aload_n S.1 S.2.1 dX1_work_186 rfl (lv_at hl 8 rfl) ?_
                      refine lv_iload S.1 S.2.1 dX1_work_187 (lv_at hl 3 rfl) ?_
                      refine g_calli (As := [.int (nI (k + 1))]) (rest := []) S hw (b := h 0) rfl rfl (mM_some l D h d uu (k + 1) (by omega) (fun b hb => by show uu 4 (24 * (k + 1) + b) < _; rw [rA (by omega) (hn3 (by omega)) b hb]; exact EV_lt hz _ _ _)) (cw_X1_X1_some S.2.2.2.2 ⟨by decide, by decide⟩) rfl hl.1 rfl (Nat.le_of_ble_eq_true rfl) dX1_work_189 ⟨Nat.zero_le _, Nat.zero_le _⟩ (fun r8 u8 H locs hp8 hw => ?_)
                      obtain ⟨rfl, rfl⟩ := hp8
                      exact jn (bN (anf (fun b => uu 4 (24 * (k + 1) + b)) 24 ≠ 0)) (bN_2 _) (by unfold cdv; rw [if_neg (by omega), if_neg (by omega), if_neg (by omega)]) _ _ _ hw (lv_sub hl [6, 4, 7, 8, 9] rfl)
                    · refine lv_iload S.1 S.2.1 dX1_work_173 (lv_at hl 1 rfl) ?_
                      refine n_if_ne (tgt := 182) S (by decide) dX1_work_175 (by decide) (fun c => absurd c (by decide)) (fun _ => ?_)
                      refine lv_iconst (v := nI 1) S.1 S.2.1 dX1_work_178 (by decide) ?_
                      refine lv_goto (tgt := 192) S.1 S.2.1 dX1_work_179 (by decide) ?_
                      exact jn 1 (by decide) (by unfold cdv; rw [if_neg (by omega), if_neg (by omega), if_pos (by omega)]; exact (bN_t c85).symm) _ _ _ hw (lv_sub hl [6, 4, 7, 8, 9] rfl)
                  · refine lv_iload S.1 S.2.1 dX1_work_148 (lv_at hl 1 rfl) ?_
                    refine n_if_ne (tgt := 158) S (by decide) dX1_work_150 (by decide) (fun c => absurd c (by decide)) (fun _ => ?_)
                    refine lv_iload S.1 S.2.1 dX1_work_153 (lv_at hl 0 rfl) ?_
                    refine n_if_eq (tgt := 162) S (by decide) dX1_work_155 (by decide) (fun c => absurd c (by decide)) (fun _ => ?_)
                    refine lv_iconst (v := nI 1) S.1 S.2.1 dX1_work_158 (by decide) ?_
                    refine lv_goto (tgt := 192) S.1 S.2.1 dX1_work_159 (by decide) ?_
                    exact jn 1 (by decide) (by unfold cdv; rw [if_neg (by omega), if_pos (by omega)]; have h2 := htwo (by omega); have z2 : (nI (uu 4 (24 * tv)) = nI 1 ↔ uu 4 (24 * tv) = 1) := nI_eq (by omega) (by decide); exact (bN_t (by rw [← z2]; exact Or.inr c106)).symm) _ _ _ hw (lv_sub hl [6, 4, 7, 8, 9] rfl)
                · refine lv_iload S.1 S.2.1 dX1_work_123 (lv_at hl 1 rfl) ?_
                  refine n_if_eq (tgt := 137) S (by decide) dX1_work_125 (by decide) (fun _ => ?_) (fun c => absurd c (by decide))
                  refine lv_iconst (v := nI 0) S.1 S.2.1 dX1_work_137 (by decide) ?_
                  refine lv_goto (tgt := 192) S.1 S.2.1 dX1_work_138 (by decide) ?_
                  exact jn 0 (by decide) (by unfold cdv; rw [if_pos (by omega)]; have h2 := htwo (by omega); have z2 : (nI (uu 4 (24 * tv)) = nI 1 ↔ uu 4 (24 * tv) = 1) := nI_eq (by omega) (by decide); exact (bN_f (by rw [← z2]; exact fun q => c85 q.1)).symm) _ _ _ hw (lv_sub hl [6, 4, 7, 8, 9] rfl)
            · refine lv_iconst (v := nI 1) S.1 S.2.1 dX1_work_88 (by decide) ?_
              refine lv_goto (tgt := 93) S.1 S.2.1 dX1_work_89 (by decide) ?_
              refine lv_istore (lv' := [(8, .int (nI 1)), (7, .int (nI tv)), (6, .int (nI (k + 1))), (5, .int (nI (ar (uu 3 k)))), (4, .int (nI (uu 3 k))), (2, .int (nI (nd (u 3) (k + 1)))), (3, .int (nI k)), (0, .ref (h 0)), (1, .int (nI dd))]) S.1 S.2.1 dX1_work_93 hl (by decide) rfl (fun ls hl => ?_)
              refine lv_aload_n S.1 S.2.1 dX1_work_95 rfl (lv_at hl 7 rfl) ?_
              refine m_g4 S hw dX1_work_96 ?_
              refine lv_bipush (v := nI 24) S.1 S.2.1 dX1_work_99 (by decide) ?_
              refine lv_iload S.1 S.2.1 dX1_work_101 (lv_at hl 1 rfl) ?_
              refine n_imul S dX1_work_103 ?_
              refine m_l4 S hw (by omega) dX1_work_104 ?_
              refine lv_iconst (v := nI 1) S.1 S.2.1 dX1_work_105 (by decide) ?_
              refine lv_icmp_ne (tgt := 113) S.1 S.2.1 dX1_work_106 (by decide) (fun c106 => ?_) (fun c106 => ?_)
              · refine lv_iconst (v := nI 0) S.1 S.2.1 dX1_work_113 (by decide) ?_
                refine lv_istore (lv' := [(9, .int (nI 0)), (8, .int (nI 1)), (7, .int (nI tv)), (6, .int (nI (k + 1))), (5, .int (nI (ar (uu 3 k)))), (4, .int (nI (uu 3 k))), (2, .int (nI (nd (u 3) (k + 1)))), (3, .int (nI k)), (0, .ref (h 0)), (1, .int (nI dd))]) S.1 S.2.1 dX1_work_114 hl (by decide) rfl (fun ls hl => ?_)
                refine lv_iload S.1 S.2.1 dX1_work_116 (lv_at hl 5 rfl) ?_
                refine lv_bipush (v := nI 20) S.1 S.2.1 dX1_work_118 (by decide) ?_
                refine n_icmp_ne (tgt := 141) S (by omega) (by omega) dX1_work_120 (by decide) (fun c120 => ?_) (fun c120 => ?_)
                · refine lv_iload S.1 S.2.1 dX1_work_141 (lv_at hl 5 rfl) ?_
                  refine lv_bipush (v := nI 21) S.1 S.2.1 dX1_work_143 (by decide) ?_
                  refine n_icmp_ne (tgt := 166) S (by omega) (by omega) dX1_work_145 (by decide) (fun c145 => ?_) (fun c145 => ?_)
                  · refine lv_iload S.1 S.2.1 dX1_work_166 (lv_at hl 5 rfl) ?_
                    refine lv_bipush (v := nI 22) S.1 S.2.1 dX1_work_168 (by decide) ?_
                    refine n_icmp_ne (tgt := 186) S (by omega) (by omega) dX1_work_170 (by decide) (fun c170 => ?_) (fun c170 => ?_)
                    · refine lv_aload_n S.1 S.2.1 dX1_work_186 rfl (lv_at hl 8 rfl) ?_
                      refine lv_iload S.1 S.2.1 dX1_work_187 (lv_at hl 3 rfl) ?_
                      refine g_calli (As := [.int (nI (k + 1))]) (rest := []) S hw (b := h 0) rfl rfl (mM_some l D h d uu (k + 1) (by omega) (fun b hb => by show uu 4 (24 * (k + 1) + b) < _; rw [rA (by omega) (hn3 (by omega)) b hb]; exact EV_lt hz _ _ _)) (cw_X1_X1_some S.2.2.2.2 ⟨by decide, by decide⟩) rfl hl.1 rfl (Nat.le_of_ble_eq_true rfl) dX1_work_189 ⟨Nat.zero_le _, Nat.zero_le _⟩ (fun r9 u9 H locs hp9 hw => ?_)
                      obtain ⟨rfl, rfl⟩ := hp9
                      exact jn (bN (anf (fun b => uu 4 (24 * (k + 1) + b)) 24 ≠ 0)) (bN_2 _) (by unfold cdv; rw [if_neg (by omega), if_neg (by omega), if_neg (by omega)]) _ _ _ hw (lv_sub hl [6, 4, 7, 8, 9] rfl)
                    · refine lv_iload S.1 S.2.1 dX1_work_173 (lv_at hl 1 rfl) ?_
                      refine n_if_ne (tgt := 182) S (by decide) dX1_work_175 (by decide) (fun _ => ?_) (fun c => absurd c (by decide))
                      refine lv_iconst (v := nI 0) S.1 S.2.1 dX1_work_182 (by decide) ?_
                      refine lv_goto (tgt := 192) S.1 S.2.1 dX1_work_183 (by decide) ?_
                      exact jn 0 (by decide) (by unfold cdv; rw [if_neg (by omega), if_neg (by omega), if_pos (by omega)]; exact (bN_f (fun q => q c85)).symm) _ _ _ hw (lv_sub hl [6, 4, 7, 8, 9] rfl)
                  · refine lv_iload S.1 S.2.1 dX1_work_148 (lv_at hl 1 rfl) ?_
                    refine n_if_ne (tgt := 158) S (by decide) dX1_work_150 (by decide) (fun _ => ?_) (fun c => absurd c (by decide))
                    refine lv_iconst (v := nI 1) S.1 S.2.1 dX1_work_158 (by decide) ?_
                    refine lv_goto (tgt := 192) S.1 S.2.1 dX1_work_159 (by decide) ?_
                    exact jn 1 (by decide) (by unfold cdv; rw [if_neg (by omega), if_pos (by omega)]; have h2 := htwo (by omega); have z2 : (nI (uu 4 (24 * tv)) = nI 1 ↔ uu 4 (24 * tv) = 1) := nI_eq (by omega) (by decide); exact (bN_t (by rw [← z2]; exact Or.inl c85)).symm) _ _ _ hw (lv_sub hl [6, 4, 7, 8, 9] rfl)
                · refine lv_iload S.1 S.2.1 dX1_work_123 (lv_at hl 1 rfl) ?_
                  refine n_if_eq (tgt := 137) S (by decide) dX1_work_125 (by decide) (fun c => absurd c (by decide)) (fun _ => ?_)
                  refine lv_iload S.1 S.2.1 dX1_work_128 (lv_at hl 0 rfl) ?_
                  refine n_if_eq (tgt := 137) S (by decide) dX1_work_130 (by decide) (fun _ => ?_) (fun c => absurd c (by decide))
                  refine lv_iconst (v := nI 0) S.1 S.2.1 dX1_work_137 (by decide) ?_
                  refine lv_goto (tgt := 192) S.1 S.2.1 dX1_work_138 (by decide) ?_
                  exact jn 0 (by decide) (by unfold cdv; rw [if_pos (by omega)]; have h2 := htwo (by omega); have z2 : (nI (uu 4 (24 * tv)) = nI 1 ↔ uu 4 (24 * tv) = 1) := nI_eq (by omega) (by decide); exact (bN_f (by rw [← z2]; exact fun q => c106 q.2)).symm) _ _ _ hw (lv_sub hl [6, 4, 7, 8, 9] rfl)
              · refine lv_iconst (v := nI 1) S.1 S.2.1 dX1_work_109 (by decide) ?_
                refine lv_goto (tgt := 114) S.1 S.2.1 dX1_work_110 (by decide) ?_
                refine lv_istore (lv' := [(9, .int (nI 1)), (8, .int (nI 1)), (7, .int (nI tv)), (6, .int (nI (k + 1))), (5, .int (nI (ar (uu 3 k)))), (4, .int (nI (uu 3 k))), (2, .int (nI (nd (u 3) (k + 1)))), (3, .int (nI k)), (0, .ref (h 0)), (1, .int (nI dd))]) S.1 S.2.1 dX1_work_114 hl (by decide) rfl (fun ls hl => ?_)
                refine lv_iload S.1 S.2.1 dX1_work_116 (lv_at hl 5 rfl) ?_
                refine lv_bipush (v := nI 20) S.1 S.2.1 dX1_work_118 (by decide) ?_
                refine n_icmp_ne (tgt := 141) S (by omega) (by omega) dX1_work_120 (by decide) (fun c120 => ?_) (fun c120 => ?_)
                · refine lv_iload S.1 S.2.1 dX1_work_141 (lv_at hl 5 rfl) ?_
                  refine lv_bipush (v := nI 21) S.1 S.2.1 dX1_work_143 (by decide) ?_
                  refine n_icmp_ne (tgt := 166) S (by omega) (by omega) dX1_work_145 (by decide) (fun c145 => ?_) (fun c145 => ?_)
                  · refine lv_iload S.1 S.2.1 dX1_work_166 (lv_at hl 5 rfl) ?_
                    refine lv_bipush (v := nI 22) S.1 S.2.1 dX1_work_168 (by decide) ?_
                    refine n_icmp_ne (tgt := 186) S (by omega) (by omega) dX1_work_170 (by decide) (fun c170 => ?_) (fun c170 => ?_)
                    · refine lv_aload_n S.1 S.2.1 dX1_work_186 rfl (lv_at hl 8 rfl) ?_
                      refine lv_iload S.1 S.2.1 dX1_work_187 (lv_at hl 3 rfl) ?_
                      refine g_calli (As := [.int (nI (k + 1))]) (rest := []) S hw (b := h 0) rfl rfl (mM_some l D h d uu (k + 1) (by omega) (fun b hb => by show uu 4 (24 * (k + 1) + b) < _; rw [rA (by omega) (hn3 (by omega)) b hb]; exact EV_lt hz _ _ _)) (cw_X1_X1_some S.2.2.2.2 ⟨by decide, by decide⟩) rfl hl.1 rfl (Nat.le_of_ble_eq_true rfl) dX1_work_189 ⟨Nat.zero_le _, Nat.zero_le _⟩ (fun r10 u10 H locs hp10 hw => ?_)
                      obtain ⟨rfl, rfl⟩ := hp10
                      exact jn (bN (anf (fun b => uu 4 (24 * (k + 1) + b)) 24 ≠ 0)) (bN_2 _) (by unfold cdv; rw [if_neg (by omega), if_neg (by omega), if_neg (by omega)]) _ _ _ hw (lv_sub hl [6, 4, 7, 8, 9] rfl)
                    · refine lv_iload S.1 S.2.1 dX1_work_173 (lv_at hl 1 rfl) ?_
                      refine n_if_ne (tgt := 182) S (by decide) dX1_work_175 (by decide) (fun _ => ?_) (fun c => absurd c (by decide))
                      refine lv_iconst (v := nI 0) S.1 S.2.1 dX1_work_182 (by decide) ?_
                      refine lv_goto (tgt := 192) S.1 S.2.1 dX1_work_183 (by decide) ?_
                      exact jn 0 (by decide) (by unfold cdv; rw [if_neg (by omega), if_neg (by omega), if_pos (by omega)]; exact (bN_f (fun q => q c85)).symm) _ _ _ hw (lv_sub hl [6, 4, 7, 8, 9] rfl)
                  · refine lv_iload S.1 S.2.1 dX1_work_148 (lv_at hl 1 rfl) ?_
                    refine n_if_ne (tgt := 158) S (by decide) dX1_work_150 (by decide) (fun _ => ?_) (fun c => absurd c (by decide))
                    refine lv_iconst (v := nI 1) S.1 S.2.1 dX1_work_158 (by decide) ?_
                    refine lv_goto (tgt := 192) S.1 S.2.1 dX1_work_159 (by decide) ?_
                    exact jn 1 (by decide) (by unfold cdv; rw [if_neg (by omega), if_pos (by omega)]; have h2 := htwo (by omega); have z2 : (nI (uu 4 (24 * tv)) = nI 1 ↔ uu 4 (24 * tv) = 1) := nI_eq (by omega) (by decide); exact (bN_t (by rw [← z2]; exact Or.inl c85)).symm) _ _ _ hw (lv_sub hl [6, 4, 7, 8, 9] rfl)
                · refine lv_iload S.1 S.2.1 dX1_work_123 (lv_at hl 1 rfl) ?_
                  refine n_if_eq (tgt := 137) S (by decide) dX1_work_125 (by decide) (fun c => absurd c (by decide)) (fun _ => ?_)
                  refine lv_iload S.1 S.2.1 dX1_work_128 (lv_at hl 0 rfl) ?_
                  refine n_if_eq (tgt := 137) S (by decide) dX1_work_130 (by decide) (fun c => absurd c (by decide)) (fun _ => ?_)
                  refine lv_iconst (v := nI 1) S.1 S.2.1 dX1_work_133 (by decide) ?_
                  refine lv_goto (tgt := 192) S.1 S.2.1 dX1_work_134 (by decide) ?_
                  exact jn 1 (by decide) (by unfold cdv; rw [if_pos (by omega)]; have h2 := htwo (by omega); have z2 : (nI (uu 4 (24 * tv)) = nI 1 ↔ uu 4 (24 * tv) = 1) := nI_eq (by omega) (by decide); exact (bN_t (by rw [← z2]; exact ⟨c85, c106⟩)).symm) _ _ _ hw (lv_sub hl [6, 4, 7, 8, 9] rfl)
        refine lv_iload_n S.1 S.2.1 dX1_work_29 rfl (lv_at hl 2 rfl) ?_
        refine lv_iconst (v := nI 1) S.1 S.2.1 dX1_work_30 (by decide) ?_
        refine n_icmp_lt (tgt := 45) S (by omega) (by omega) dX1_work_31 (by decide) (fun c31 => ?_) (fun c31 => ?_)
        · refine lv_iconst (v := nI 0) S.1 S.2.1 dX1_work_45 (by decide) ?_
          refine lv_istore (lv' := [(6, .int (nI 0)), (5, .int (nI (ar (uu 3 k)))), (4, .int (nI (uu 3 k))), (2, .int (nI (nd (u 3) (k + 1)))), (3, .int (nI k)), (0, .ref (h 0)), (1, .int (nI dd))]) S.1 S.2.1 dX1_work_46 hl (by decide) rfl (fun ls hl => ?_)
          refine lv_iload_n S.1 S.2.1 dX1_work_48 rfl (lv_at hl 3 rfl) ?_
          refine lv_iconst (v := nI 2) S.1 S.2.1 dX1_work_49 (by decide) ?_
          refine n_icmp_lt (tgt := 64) S (by omega) (by omega) dX1_work_50 (by decide) (fun c50 => ?_) (fun c50 => ?_)
          · refine lv_iconst (v := nI 0) S.1 S.2.1 dX1_work_64 (by decide) ?_
            refine lv_istore (lv' := [(7, .int (nI 0)), (6, .int (nI 0)), (5, .int (nI (ar (uu 3 k)))), (4, .int (nI (uu 3 k))), (2, .int (nI (nd (u 3) (k + 1)))), (3, .int (nI k)), (0, .ref (h 0)), (1, .int (nI dd))]) S.1 S.2.1 dX1_work_65 hl (by decide) rfl (fun ls hl => ?_)
            exact jm 0 0 (by omega) (by omega) (fun q => by omega) (fun q => by omega) _ _ _ hw (lv_sub hl [0, 1, 2, 3, 4, 5, 6, 7] rfl)
          · exfalso; omega
        · refine lv_aload_n S.1 S.2.1 dX1_work_34 rfl (lv_at hl 4 rfl) ?_
          refine m_g5 S hw dX1_work_35 ?_
          refine lv_iload_n S.1 S.2.1 dX1_work_38 rfl (lv_at hl 2 rfl) ?_
          refine lv_iconst (v := nI 1) S.1 S.2.1 dX1_work_39 (by decide) ?_
          refine n_isub S (by omega) dX1_work_40 ?_
          refine m_l5 S hw (by omega) dX1_work_41 ?_
          refine lv_goto (tgt := 46) S.1 S.2.1 dX1_work_42 (by decide) ?_
          refine lv_istore (lv' := [(6, .int (nI (uu 5 ((nd (u 3) (k + 1)) - 1)))), (5, .int (nI (ar (uu 3 k)))), (4, .int (nI (uu 3 k))), (2, .int (nI (nd (u 3) (k + 1)))), (3, .int (nI k)), (0, .ref (h 0)), (1, .int (nI dd))]) S.1 S.2.1 dX1_work_46 hl (by decide) rfl (fun ls hl => ?_)
          refine lv_iload_n S.1 S.2.1 dX1_work_48 rfl (lv_at hl 3 rfl) ?_
          refine lv_iconst (v := nI 2) S.1 S.2.1 dX1_work_49 (by decide) ?_
          refine n_icmp_lt (tgt := 64) S (by omega) (by omega) dX1_work_50 (by decide) (fun c50 => ?_) (fun c50 => ?_)
          · refine lv_iconst (v := nI 0) S.1 S.2.1 dX1_work_64 (by decide) ?_
            refine lv_istore (lv' := [(7, .int (nI 0)), (6, .int (nI (uu 5 ((nd (u 3) (k + 1)) - 1)))), (5, .int (nI (ar (uu 3 k)))), (4, .int (nI (uu 3 k))), (2, .int (nI (nd (u 3) (k + 1)))), (3, .int (nI k)), (0, .ref (h 0)), (1, .int (nI dd))]) S.1 S.2.1 dX1_work_65 hl (by decide) rfl (fun ls hl => ?_)
            exact jm (uu 5 ((nd (u 3) (k + 1)) - 1)) 0 (by have := hst (nd (u 3) (k + 1) - 1) (by omega); omega) (by omega) (fun _ => SI_1 hst (by omega)) (fun q => by omega) _ _ _ hw (lv_sub hl [0, 1, 2, 3, 4, 5, 6, 7] rfl)
          · refine lv_aload_n S.1 S.2.1 dX1_work_53 rfl (lv_at hl 5 rfl) ?_
            refine m_g5 S hw dX1_work_54 ?_
            refine lv_iload_n S.1 S.2.1 dX1_work_57 rfl (lv_at hl 3 rfl) ?_
            refine lv_iconst (v := nI 2) S.1 S.2.1 dX1_work_58 (by decide) ?_
            refine n_isub S (by omega) dX1_work_59 ?_
            refine m_l5 S hw (by omega) dX1_work_60 ?_
            refine lv_goto (tgt := 65) S.1 S.2.1 dX1_work_61 (by decide) ?_
            refine lv_istore (lv' := [(7, .int (nI (uu 5 ((nd (u 3) (k + 1)) - 2)))), (6, .int (nI (uu 5 ((nd (u 3) (k + 1)) - 1)))), (5, .int (nI (ar (uu 3 k)))), (4, .int (nI (uu 3 k))), (2, .int (nI (nd (u 3) (k + 1)))), (3, .int (nI k)), (0, .ref (h 0)), (1, .int (nI dd))]) S.1 S.2.1 dX1_work_65 hl (by decide) rfl (fun ls hl => ?_)
            exact jm (uu 5 ((nd (u 3) (k + 1)) - 1)) (uu 5 ((nd (u 3) (k + 1)) - 2)) (by have := hst (nd (u 3) (k + 1) - 1) (by omega); omega) (by have := hst (nd (u 3) (k + 1) - 2) (by omega); omega) (fun _ => SI_1 hst (by omega)) (fun q => SI_2 hst hpos q) _ _ _ hw (lv_sub hl [0, 1, 2, 3, 4, 5, 6, 7] rfl)
  exact lp (u 2 0 + 1) (u 2 0) u (by omega) (by omega) (fun _ _ => rfl) (fun p hp => absurd hp (by omega)) (fun a h1 h2 => absurd h2 (by omega)) _ _ _ hw (lv_sub hl [1, 0, 2, 3] rfl)
end
section
/-! the answers of PhraseIndexModel, printed by gen/mans.py -/
set_option maxRecDepth 100000
set_option maxHeartbeats 4000000 in
theorem mM_holds (l : Launch) (D : va_G) (h : Nat → Nat) (d : Nat → ClassId) (u : gU) (a : Int32) (hI : mI u) : gMi l yX1_holds cX1_holds 2 .boolean (rk 3) D (mL h d) (mT d) [.ref (h 0), .int a] u (fun r u' => r = nI (hoF (u 0) (u 1) (u 3) (u 2 0) a) ∧ km u u') := by
  refine gMi_of (by decide) (Nat.le_of_ble_eq_true rfl) ?_
  intro p e s m args below meth c A Q ls S hw hl hret
  have S : CallFix p m c cX1_holds 2 s args lw_all RX1 := S
  have hl : lv_has ls 2 [(0, .ref (h 0)), (1, .int a)] := hl
  have hq := hI.2.2
  refine lv_aload_n S.1 S.2.1 dX1_holds_0 rfl (lv_at hl 0 rfl) ?_
  refine lv_iload_n S.1 S.2.1 dX1_holds_1 rfl (lv_at hl 1 rfl) ?_
  refine g_calli (As := [.int a]) (rest := []) S hw (b := h 0) rfl rfl (mM_document l D h d u a) (cw_X1_X1_document S.2.2.2.2 ⟨by decide, by decide⟩) rfl hl.1 rfl (Nat.le_of_ble_eq_true rfl) dX1_holds_2 ⟨Nat.zero_le _, Nat.zero_le _⟩ (fun r1 u1 H locs hp1 hw => ?_)
  obtain ⟨rfl, rfl⟩ := hp1
  refine n_if_eq (tgt := 15) S (by exact bN_lt _) dX1_holds_5 (by decide) (fun c5 => ?_) (fun c5 => ?_)
  · refine lv_iconst (v := nI 0) S.1 S.2.1 dX1_holds_15 (by decide) ?_
    exact hret _ _ dX1_holds_16 (nI_zn _ (by decide)) ⟨congrArg nI (by unfold hoF; rw [if_neg (fun q => bN_0 c5 q.1)]), km_rf u⟩ hw
  · obtain ⟨j, hj, rfl, hj'⟩ := ix_lt (bN_1 c5)
    refine lv_aload_n S.1 S.2.1 dX1_holds_8 rfl (lv_at hl 0 rfl) ?_
    refine g_calli (As := []) (rest := []) S hw (b := h 0) rfl rfl (mM_complete l D h d u hq) (cw_X1_X1_complete S.2.2.2.2 ⟨by decide, by decide⟩) rfl hl.1 rfl (Nat.le_of_ble_eq_true rfl) dX1_holds_9 ⟨Nat.zero_le _, Nat.zero_le _⟩ (fun r2 u2 H locs hp2 hw => ?_)
    obtain ⟨rfl, hf⟩ := hp2
    have hkm : km u u2 := fun a ha => hf a (by omega)
    refine n_if_ne (tgt := 17) S (by exact bN_lt _) dX1_holds_12 (by decide) (fun c12 => ?_) (fun c12 => ?_)
    · have hnd := bN_1 c12
      have hrt := q_root hq hnd
      refine lv_aload_n S.1 S.2.1 dX1_holds_17 rfl (lv_at hl 0 rfl) ?_
      refine lv_iload_n S.1 S.2.1 dX1_holds_18 rfl (lv_at hl 1 rfl) ?_
      refine g_callv (As := [.int (nI j)]) (rest := []) S hw (b := h 0) rfl rfl (mM_work l D h d u2 j hj (mI_km hI hkm) (by rw [hkm 3 (by decide), hkm 2 (by decide)]; exact hnd)) (cw_X1_X1_work S.2.2.2.2 ⟨by decide, by decide⟩) rfl hl.1 rfl (Nat.le_of_ble_eq_true rfl) dX1_holds_19 ⟨Nat.zero_le _, Nat.zero_le _⟩ (fun u3 H locs hp3 hw => ?_)
      obtain ⟨hk2, hW⟩ := hp3
      rw [hkm 0 (by decide), hkm 1 (by decide), hkm 2 (by decide), hkm 3 (by decide)] at hW
      have hkp := km_tr hkm hk2
      have hv := (hW 0 (Nat.le_refl _) hrt.1).2 hrt.2
      rw [Nat.sub_zero] at hv
      have hv : u3 4 0 = EV (u 0) (u 1) j (u 3) (u 2 0) (u 2 0) 0 0 := hv
      have hv2 : EV (u 0) (u 1) j (u 3) (u 2 0) (u 2 0) 0 0 < 2 := EV_c hrt.2 _
      have hho : hoF (u 0) (u 1) (u 3) (u 2 0) (nI j) = EV (u 0) (u 1) j (u 3) (u 2 0) (u 2 0) 0 0 := by unfold hoF; rw [ix_in hj' hj, if_pos ⟨hj, hnd⟩]
      refine lv_aload_n S.1 S.2.1 dX1_holds_22 rfl (lv_at hl 0 rfl) ?_
      refine m_g4 S hw dX1_holds_23 ?_
      refine lv_iconst (v := nI 0) S.1 S.2.1 dX1_holds_26 (by decide) ?_
      refine m_l4 S hw (by omega) dX1_holds_27 ?_
      refine lv_iconst (v := nI 1) S.1 S.2.1 dX1_holds_28 (by decide) ?_
      refine n_icmp_ne (tgt := 36) S (by omega) (by omega) dX1_holds_29 (by decide) (fun c29 => ?_) (fun c29 => ?_)
      · refine lv_iconst (v := nI 0) S.1 S.2.1 dX1_holds_36 (by decide) ?_
        exact hret _ _ dX1_holds_37 (nI_zn _ (by decide)) ⟨congrArg nI (by omega), hkp⟩ hw
      · refine lv_iconst (v := nI 1) S.1 S.2.1 dX1_holds_32 (by decide) ?_
        refine lv_goto (tgt := 37) S.1 S.2.1 dX1_holds_33 (by decide) ?_
        exact hret _ _ dX1_holds_37 (nI_zn _ (by decide)) ⟨congrArg nI (by omega), hkp⟩ hw
    · refine lv_iconst (v := nI 0) S.1 S.2.1 dX1_holds_15 (by decide) ?_
      exact hret _ _ dX1_holds_16 (nI_zn _ (by decide)) ⟨congrArg nI (by unfold hoF; rw [if_neg (fun q => bN_0 c12 q.2)]), hkm⟩ hw
set_option maxHeartbeats 4000000 in
theorem mM_matching (l : Launch) (D : va_G) (h : Nat → Nat) (d : Nat → ClassId) (u : gU) (hI : mI u) : gMi l yX1_matching cX1_matching 3 .int (rk 4) D (mL h d) (mT d) [.ref (h 0)] u (fun r u' => r = nI (mtf (u 0) (u 1) (u 3) (u 2 0) 6) ∧ km u u') := by
  refine gMi_of (by decide) (Nat.le_of_ble_eq_true rfl) ?_
  intro p e s m args below meth c A Q ls S hw hl hret
  have S : CallFix p m c cX1_matching 3 s args lw_all RX1 := S
  have hl : lv_has ls 3 [(0, .ref (h 0))] := hl
  have lp : ∀ (n : Nat) (i v : Nat) (uu : gU), (i ≤ 6) → (7 ≤ i + n) → (km u uu) → (v = mtf (u 0) (u 1) (u 3) (u 2 0) i) → ∀ (H : Heap) (locs : List Loc) (ls : Array Slot), mW D h d A s H locs uu → lv_has ls 3 [(2, .int (nI i)), (1, .int (nI v)), (0, .ref (h 0))] → W p l e (rk 4) s m args below meth c H locs 0 0 Q (F0 m 4 ls []) := by
    intro n
    induction n with
    | zero =>
      intro i v uu hi hn hk hv
      exfalso; omega
    | succ n ih =>
      intro i v uu hi hn hk hv H locs ls hw hl
      refine lv_iload_n S.1 S.2.1 dX1_matching_4 rfl (lv_at hl 0 rfl) ?_
      refine lv_bipush (v := nI 6) S.1 S.2.1 dX1_matching_5 (by decide) ?_
      refine n_icmp_ge (tgt := 34) S (by omega) (by omega) dX1_matching_7 (by decide) (fun c7 => ?_) (fun c7 => ?_)
      · refine lv_iload_n S.1 S.2.1 dX1_matching_34 rfl (lv_at hl 1 rfl) ?_
        exact hret _ _ dX1_matching_35 rfl (⟨by rw [hv, show i = 6 by omega], hk⟩) hw
      · refine lv_aload_n S.1 S.2.1 dX1_matching_10 rfl (lv_at hl 2 rfl) ?_
        refine lv_iload_n S.1 S.2.1 dX1_matching_11 rfl (lv_at hl 0 rfl) ?_
        refine g_calli (As := [.int (nI i)]) (rest := []) S hw (b := h 0) rfl rfl (mM_holds l D h d uu (nI i) (mI_km hI hk)) (cw_X1_X1_holds S.2.2.2.2 ⟨by decide, by decide⟩) rfl hl.1 rfl (Nat.le_of_ble_eq_true rfl) dX1_matching_12 ⟨Nat.zero_le _, Nat.zero_le _⟩ (fun r1 u1 H locs hp1 hw => ?_)
        obtain ⟨rfl, hk2⟩ := hp1
        have e5 : hoF (uu 0) (uu 1) (uu 3) (uu 2 0) (nI i) = hoF (u 0) (u 1) (u 3) (u 2 0) (nI i) := by rw [hk 0 (by decide), hk 1 (by decide), hk 3 (by decide), hk 2 (by decide)]
        rw [e5]
        have h2 := hoF_2 (z := u 0) (x := u 1) hI.2.2 (nI i)
        refine n_if_eq (tgt := 26) S (by omega) dX1_matching_15 (by decide) (fun c15 => ?_) (fun c15 => ?_)
        · refine lv_iload_n S.1 S.2.1 dX1_matching_26 rfl (lv_at hl 1 rfl) ?_
          refine lv_istore_n (lv' := [(1, .int (nI v)), (2, .int (nI i)), (0, .ref (h 0))]) S.1 S.2.1 dX1_matching_27 rfl hl (by decide) rfl (fun ls hl => ?_)
          refine n_iinc (k := 1) (lv' := [(2, .int (nI (i + 1))), (1, .int (nI v)), (0, .ref (h 0))]) S dX1_matching_28 hl rfl (by decide) rfl (fun ls hl => ?_)
          refine lv_goto (tgt := 4) S.1 S.2.1 dX1_matching_31 (by decide) ?_
          exact ih (i + 1) v u1 (by omega) (by omega) (km_tr hk hk2) (by rw [hv, mtf, if_pos c15]) _ _ _ hw (lv_sub hl [0, 1, 2] rfl)
        · refine lv_iload_n S.1 S.2.1 dX1_matching_18 rfl (lv_at hl 1 rfl) ?_
          refine lv_iconst (v := nI 1) S.1 S.2.1 dX1_matching_19 (by decide) ?_
          refine lv_iload_n S.1 S.2.1 dX1_matching_20 rfl (lv_at hl 0 rfl) ?_
          refine n_ishl S (by omega) dX1_matching_21 ?_
          refine n_ior S dX1_matching_22 ?_
          refine lv_goto (tgt := 27) S.1 S.2.1 dX1_matching_23 (by decide) ?_
          refine lv_istore_n (lv' := [(1, .int (nI (v ||| (1 <<< i)))), (2, .int (nI i)), (0, .ref (h 0))]) S.1 S.2.1 dX1_matching_27 rfl hl (by decide) rfl (fun ls hl => ?_)
          refine n_iinc (k := 1) (lv' := [(2, .int (nI (i + 1))), (1, .int (nI (v ||| (1 <<< i)))), (0, .ref (h 0))]) S dX1_matching_28 hl rfl (by decide) rfl (fun ls hl => ?_)
          refine lv_goto (tgt := 4) S.1 S.2.1 dX1_matching_31 (by decide) ?_
          exact ih (i + 1) (v ||| (1 <<< i)) u1 (by omega) (by omega) (km_tr hk hk2) (by rw [hv, mtf, if_neg c15]) _ _ _ hw (lv_sub hl [0, 1, 2] rfl)
  refine lv_iconst (v := nI 0) S.1 S.2.1 dX1_matching_0 (by decide) ?_
  refine lv_istore_n (lv' := [(1, .int (nI 0)), (0, .ref (h 0))]) S.1 S.2.1 dX1_matching_1 rfl hl (by decide) rfl (fun ls hl => ?_)
  refine lv_iconst (v := nI 0) S.1 S.2.1 dX1_matching_2 (by decide) ?_
  refine lv_istore_n (lv' := [(2, .int (nI 0)), (1, .int (nI 0)), (0, .ref (h 0))]) S.1 S.2.1 dX1_matching_3 rfl hl (by decide) rfl (fun ls hl => ?_)
  exact lp 7 0 0 u (by omega) (by omega) (km_rf u) rfl _ _ _ hw (lv_sub hl [0, 1, 2] rfl)
set_option maxHeartbeats 4000000 in
theorem mM_find (l : Launch) (D : va_G) (h : Nat → Nat) (d : Nat → ClassId) (u : gU) (g a : Int32) (hI : mI u) : gMi l yX1_find cX1_find 5 .int (rk 3) D (mL h d) (mT d) [.ref (h 0), .int g, .int a] u (fun r u' => km u u' ∧ ((SN (u 3) (u 2 0) g a ∧ r = -1) ∨ ∃ i, SY (u 3) (u 2 0) g a i ∧ r = nI (i + 1) ∧ i + 1 < 12 ∧ ∀ b, b < 24 → u' 4 (24 * (i + 1) + b) = EV (u 0) (u 1) (ix 6 a) (u 3) (u 2 0) (u 2 0) (i + 1) b)) := by
  refine gMi_of (by decide) (Nat.le_of_ble_eq_true rfl) ?_
  intro p e s m args below meth c A Q ls S hw hl hret
  have S : CallFix p m c cX1_find 5 s args lw_all RX1 := S
  have hl : lv_has ls 5 [(0, .ref (h 0)), (1, .int g), (2, .int a)] := hl
  have hq := hI.2.2
  have hq1 := hq.1
  refine lv_aload_n S.1 S.2.1 dX1_find_0 rfl (lv_at hl 0 rfl) ?_
  refine lv_iload_n S.1 S.2.1 dX1_find_1 rfl (lv_at hl 2 rfl) ?_
  refine g_calli (As := [.int a]) (rest := []) S hw (b := h 0) rfl rfl (mM_document l D h d u a) (cw_X1_X1_document S.2.2.2.2 ⟨by decide, by decide⟩) rfl hl.1 rfl (Nat.le_of_ble_eq_true rfl) dX1_find_2 ⟨Nat.zero_le _, Nat.zero_le _⟩ (fun r1 u1 H locs hp1 hw => ?_)
  obtain ⟨rfl, rfl⟩ := hp1
  refine n_if_eq (tgt := 15) S (by exact bN_lt _) dX1_find_5 (by decide) (fun c5 => ?_) (fun c5 => ?_)
  · refine lv_iconst (v := (-1)) S.1 S.2.1 dX1_find_15 (by decide) ?_
    exact hret _ _ dX1_find_16 rfl ⟨km_rf u, Or.inl ⟨Or.inl (fun q => bN_0 c5 q.1), rfl⟩⟩ hw
  · have ha := bN_1 c5
    obtain ⟨j, hj, ej, hj'⟩ := ix_lt ha
    have hij : ix 6 a = j := by rw [ej]; exact ix_in hj' hj
    rw [ej] at hl
    refine lv_aload_n S.1 S.2.1 dX1_find_8 rfl (lv_at hl 0 rfl) ?_
    refine g_calli (As := []) (rest := []) S hw (b := h 0) rfl rfl (mM_complete l D h d u hq) (cw_X1_X1_complete S.2.2.2.2 ⟨by decide, by decide⟩) rfl hl.1 rfl (Nat.le_of_ble_eq_true rfl) dX1_find_9 ⟨Nat.zero_le _, Nat.zero_le _⟩ (fun r2 u2 H locs hp2 hw => ?_)
    obtain ⟨rfl, hf⟩ := hp2
    have hkm : km u u2 := fun a ha => hf a (by omega)
    refine n_if_ne (tgt := 17) S (by exact bN_lt _) dX1_find_12 (by decide) (fun c12 => ?_) (fun c12 => ?_)
    · have hnd := bN_1 c12
      refine lv_aload_n S.1 S.2.1 dX1_find_17 rfl (lv_at hl 0 rfl) ?_
      refine lv_iload_n S.1 S.2.1 dX1_find_18 rfl (lv_at hl 2 rfl) ?_
      refine g_callv (As := [.int (nI j)]) (rest := []) S hw (b := h 0) rfl rfl (mM_work l D h d u2 j hj (mI_km hI hkm) (by rw [hkm 3 (by decide), hkm 2 (by decide)]; exact hnd)) (cw_X1_X1_work S.2.2.2.2 ⟨by decide, by decide⟩) rfl hl.1 rfl (Nat.le_of_ble_eq_true rfl) dX1_find_19 ⟨Nat.zero_le _, Nat.zero_le _⟩ (fun u3 H locs hp3 hw => ?_)
      obtain ⟨hk2, hW⟩ := hp3
      rw [hkm 0 (by decide), hkm 1 (by decide), hkm 2 (by decide), hkm 3 (by decide)] at hW
      have hkp := km_tr hkm hk2
      refine lv_iconst (v := nI 0) S.1 S.2.1 dX1_find_22 (by decide) ?_
      refine lv_istore_n (lv' := [(3, .int (nI 0)), (0, .ref (h 0)), (1, .int g), (2, .int (nI j))]) S.1 S.2.1 dX1_find_23 rfl hl (by decide) rfl (fun ls hl => ?_)
      refine lv_iconst (v := nI 0) S.1 S.2.1 dX1_find_24 (by decide) ?_
      refine lv_istore (lv' := [(4, .int (nI 0)), (3, .int (nI 0)), (0, .ref (h 0)), (1, .int g), (2, .int (nI j))]) S.1 S.2.1 dX1_find_25 hl (by decide) rfl (fun ls hl => ?_)
      have h2 : u3 2 0 = u 2 0 := by rw [hkp 2 (by decide)]
      have h3 : u3 3 = u 3 := hkp 3 (by decide)
      have lp : ∀ (n : Nat) (i v : Nat), (i ≤ u 2 0) → (u 2 0 + 1 ≤ i + n) → (v = htf (u 3) i) → (∀ i', i' < i → ¬ SP (u 3) g i') → ∀ (H : Heap) (locs : List Loc) (ls : Array Slot), mW D h d A s H locs u3 → lv_has ls 5 [(4, .int (nI i)), (3, .int (nI v)), (0, .ref (h 0)), (1, .int g)] → W p l e (rk 3) s m args below meth c H locs 0 0 Q (F0 m 27 ls []) := by
        intro n
        induction n with
        | zero =>
          intro i v hi hn hv hno
          exfalso; omega
        | succ n ih =>
          intro i v hi hn hv hno H locs ls hw hl
          refine lv_iload S.1 S.2.1 dX1_find_27 (lv_at hl 0 rfl) ?_
          refine lv_aload_n S.1 S.2.1 dX1_find_29 rfl (lv_at hl 2 rfl) ?_
          refine m_g2 S hw dX1_find_30 ?_
          refine n_icmp_ge (tgt := 67) S (by omega) (by omega) dX1_find_33 (by decide) (fun c33 => ?_) (fun c33 => ?_)
          · refine lv_iconst (v := (-1)) S.1 S.2.1 dX1_find_67 (by decide) ?_
            exact hret _ _ dX1_find_68 rfl ⟨hkp, Or.inl ⟨Or.inr (fun i' hi' => hno i' (by omega)), rfl⟩⟩ hw
          · refine lv_aload_n S.1 S.2.1 dX1_find_36 rfl (lv_at hl 2 rfl) ?_
            refine m_g3 S hw dX1_find_37 ?_
            refine lv_iload S.1 S.2.1 dX1_find_40 (lv_at hl 0 rfl) ?_
            refine m_l3 S hw (by omega) dX1_find_42 ?_
            refine lv_bipush (v := nI 23) S.1 S.2.1 dX1_find_43 (by decide) ?_
            refine n_icmp_ne (tgt := 61) S (by have := hq.2.1 i; rw [h3]; omega) (by omega) dX1_find_45 (by decide) (fun c45 => ?_) (fun c45 => ?_)
            · refine n_iinc (k := 0) (lv' := [(4, .int (nI (i + 1))), (3, .int (nI v)), (0, .ref (h 0)), (1, .int g)]) S dX1_find_61 hl rfl (by decide) rfl (fun ls hl => ?_)
              refine lv_goto (tgt := 27) S.1 S.2.1 dX1_find_64 (by decide) ?_
              exact ih (i + 1) v (by omega) (by omega) (by rw [hv, htf, bN_f (by rw [← h3]; exact c45), Nat.add_zero]) (fun i' hi' => by rcases Nat.lt_succ_iff_lt_or_eq.mp hi' with q | q; (exact hno i' q); (subst q; exact fun z => c45 (by rw [h3]; exact z.1))) _ _ _ hw (lv_sub hl [0, 1, 2, 3] rfl)
            · refine lv_iload_n S.1 S.2.1 dX1_find_48 rfl (lv_at hl 1 rfl) ?_
              refine lv_iload_n S.1 S.2.1 dX1_find_49 rfl (lv_at hl 3 rfl) ?_
              refine lv_icmp_ne (tgt := 58) S.1 S.2.1 dX1_find_50 (by decide) (fun c50 => ?_) (fun c50 => ?_)
              · refine n_iinc (k := 1) (lv' := [(3, .int (nI (v + 1))), (4, .int (nI i)), (0, .ref (h 0)), (1, .int g)]) S dX1_find_58 hl rfl (by decide) rfl (fun ls hl => ?_)
                refine n_iinc (k := 1) (lv' := [(4, .int (nI (i + 1))), (3, .int (nI (v + 1))), (0, .ref (h 0)), (1, .int g)]) S dX1_find_61 hl rfl (by decide) rfl (fun ls hl => ?_)
                refine lv_goto (tgt := 27) S.1 S.2.1 dX1_find_64 (by decide) ?_
                exact ih (i + 1) (v + 1) (by omega) (by omega) (by rw [hv, htf, bN_t (by rw [← h3]; exact c45)]) (fun i' hi' => by rcases Nat.lt_succ_iff_lt_or_eq.mp hi' with q | q; (exact hno i' q); (subst q; exact fun z => c50 (by rw [hv]; exact z.2))) _ _ _ hw (lv_sub hl [0, 1, 2, 3] rfl)
              · refine lv_iload S.1 S.2.1 dX1_find_53 (lv_at hl 0 rfl) ?_
                refine lv_iconst (v := nI 1) S.1 S.2.1 dX1_find_55 (by decide) ?_
                refine n_iadd S dX1_find_56 ?_
                have hc : u 3 i = 23 := by rw [← h3]; exact c45
                have hkid := has_kid hq hnd (by omega) hc
                exact hret _ _ dX1_find_57 rfl ⟨hkp, Or.inr ⟨i, ⟨ha, hnd, by omega, ⟨hc, by rw [← hv]; exact c50⟩, hno⟩, rfl, by omega, fun b hb => by rw [hij]; have z := (hW (i + 1) (Nat.zero_le _) hkid.1).1 hkid.2 b hb; rw [Nat.sub_zero] at z; exact z⟩⟩ hw
      exact lp (u 2 0 + 1) 0 0 (by omega) (by omega) rfl (fun i' hi' => absurd hi' (by omega)) _ _ _ hw (lv_sub hl [0, 1, 2, 3] rfl)
    · refine lv_iconst (v := (-1)) S.1 S.2.1 dX1_find_15 (by decide) ?_
      exact hret _ _ dX1_find_16 rfl ⟨hkm, Or.inl ⟨Or.inl (fun q => bN_0 c12 q.2), rfl⟩⟩ hw
theorem spf_s {row : Nat → Nat} {c : Nat} : spf row ((c + 1) / 24) + onf (row ((c + 1) / 24)) ((c + 1) % 24) = spf row (c / 24) + onf (row (c / 24)) (c % 24) + (row (c / 24) >>> (c % 24) &&& 1) := by
  have k : onf (row (c / 24)) (c % 24 + 1) = onf (row (c / 24)) (c % 24) + (row (c / 24) >>> (c % 24) &&& 1) := rfl
  rw [Nat.add_assoc, ← k]
  by_cases r : c % 24 = 23
  · rw [show (c + 1) / 24 = c / 24 + 1 by omega, show (c + 1) % 24 = 0 by omega, spf, r]
    rfl
  · rw [show (c + 1) / 24 = c / 24 by omega, show (c + 1) % 24 = c % 24 + 1 by omega]
set_option maxHeartbeats 4000000 in
theorem mM_spans (l : Launch) (D : va_G) (h : Nat → Nat) (d : Nat → ClassId) (u : gU) (g a : Int32) (hI : mI u) : gMi l yX1_spans cX1_spans 6 .int (rk 4) D (mL h d) (mT d) [.ref (h 0), .int g, .int a] u (fun r u' => spR (u 0) (u 1) (u 3) (u 2 0) g a r ∧ km u u') := by
  refine gMi_of (by decide) (Nat.le_of_ble_eq_true rfl) ?_
  intro p e s m args below meth c A Q ls S hw hl hret
  have S : CallFix p m c cX1_spans 6 s args lw_all RX1 := S
  have hl : lv_has ls 6 [(0, .ref (h 0)), (1, .int g), (2, .int a)] := hl
  refine lv_aload_n S.1 S.2.1 dX1_spans_0 rfl (lv_at hl 0 rfl) ?_
  refine lv_iload_n S.1 S.2.1 dX1_spans_1 rfl (lv_at hl 1 rfl) ?_
  refine lv_iload_n S.1 S.2.1 dX1_spans_2 rfl (lv_at hl 2 rfl) ?_
  refine g_calli (As := [.int g, .int a]) (rest := []) S hw (b := h 0) rfl rfl (mM_find l D h d u g a hI) (cw_X1_X1_find S.2.2.2.2 ⟨by decide, by decide⟩) rfl hl.1 rfl (Nat.le_of_ble_eq_true rfl) dX1_spans_3 ⟨Nat.zero_le _, Nat.zero_le _⟩ (fun r1 u1 H locs hp1 hw => ?_)
  obtain ⟨hkp, hS⟩ := hp1
  have hz := hI.1 (ix 6 a)
  rcases hS with ⟨hN, rfl⟩ | ⟨i, hY, rfl, hi12, hE⟩
  · refine lv_istore_n (lv' := [(3, .int ((-1))), (0, .ref (h 0)), (1, .int g), (2, .int a)]) S.1 S.2.1 dX1_spans_6 rfl hl (by decide) rfl (fun ls hl => ?_)
    refine lv_iload_n S.1 S.2.1 dX1_spans_7 rfl (lv_at hl 0 rfl) ?_
    refine lv_if_ge (tgt := 15) S.1 S.2.1 dX1_spans_8 (by decide) (fun c8 => ?_) (fun c8 => ?_)
    · exact absurd c8 (by decide)
    · refine lv_iconst (v := (-1)) S.1 S.2.1 dX1_spans_11 (by decide) ?_
      refine lv_goto (tgt := 16) S.1 S.2.1 dX1_spans_12 (by decide) ?_
      refine lv_istore (lv' := [(4, .int ((-1))), (3, .int ((-1))), (0, .ref (h 0)), (1, .int g), (2, .int a)]) S.1 S.2.1 dX1_spans_16 hl (by decide) rfl (fun ls hl => ?_)
      refine lv_iconst (v := nI 0) S.1 S.2.1 dX1_spans_18 (by decide) ?_
      refine lv_istore (lv' := [(5, .int (nI 0)), (4, .int ((-1))), (3, .int ((-1))), (0, .ref (h 0)), (1, .int g), (2, .int a)]) S.1 S.2.1 dX1_spans_19 hl (by decide) rfl (fun ls hl => ?_)
      refine lv_iload S.1 S.2.1 dX1_spans_21 (lv_at hl 0 rfl) ?_
      refine lv_sipush (v := nI 576) S.1 S.2.1 dX1_spans_23 (by decide) ?_
      refine n_icmp_ge (tgt := 67) S (by omega) (by omega) dX1_spans_26 (by decide) (fun c26 => ?_) (fun c26 => ?_)
      · exact absurd c26 (by omega)
      · refine lv_iload_n S.1 S.2.1 dX1_spans_29 rfl (lv_at hl 2 rfl) ?_
        refine lv_if_lt (tgt := 67) S.1 S.2.1 dX1_spans_30 (by decide) (fun c30 => ?_) (fun c30 => ?_)
        · refine lv_iload S.1 S.2.1 dX1_spans_67 (lv_at hl 1 rfl) ?_
          exact hret _ _ dX1_spans_69 rfl (⟨Or.inl ⟨hN, rfl⟩, hkp⟩) hw
        · exact absurd (by decide) c30
  · refine lv_istore_n (lv' := [(3, .int (nI (i + 1))), (0, .ref (h 0)), (1, .int g), (2, .int a)]) S.1 S.2.1 dX1_spans_6 rfl hl (by decide) rfl (fun ls hl => ?_)
    refine lv_iload_n S.1 S.2.1 dX1_spans_7 rfl (lv_at hl 0 rfl) ?_
    refine n_if_ge (tgt := 15) S (by omega) dX1_spans_8 (by decide) ?_
    refine lv_iconst (v := nI 0) S.1 S.2.1 dX1_spans_15 (by decide) ?_
    refine lv_istore (lv' := [(4, .int (nI 0)), (3, .int (nI (i + 1))), (0, .ref (h 0)), (1, .int g), (2, .int a)]) S.1 S.2.1 dX1_spans_16 hl (by decide) rfl (fun ls hl => ?_)
    refine lv_iconst (v := nI 0) S.1 S.2.1 dX1_spans_18 (by decide) ?_
    refine lv_istore (lv' := [(5, .int (nI 0)), (4, .int (nI 0)), (3, .int (nI (i + 1))), (0, .ref (h 0)), (1, .int g), (2, .int a)]) S.1 S.2.1 dX1_spans_19 hl (by decide) rfl (fun ls hl => ?_)
    have lp : ∀ (n : Nat) (c5 v : Nat), (c5 ≤ 576) → (577 ≤ c5 + n) → (v = spf (EV (u 0) (u 1) (ix 6 a) (u 3) (u 2 0) (u 2 0) (i + 1)) (c5 / 24) + onf (EV (u 0) (u 1) (ix 6 a) (u 3) (u 2 0) (u 2 0) (i + 1) (c5 / 24)) (c5 % 24)) → ∀ (H : Heap) (locs : List Loc) (ls : Array Slot), mW D h d A s H locs u1 → lv_has ls 6 [(5, .int (nI c5)), (4, .int (nI v)), (3, .int (nI (i + 1))), (0, .ref (h 0))] → W p l e (rk 4) s m args below meth c H locs 0 0 Q (F0 m 21 ls []) := by
      intro n
      induction n with
      | zero =>
        intro c5 v hc hn hv
        exfalso; omega
      | succ n ih =>
        intro c5 v hc hn hv H locs ls hw hl
        refine lv_iload S.1 S.2.1 dX1_spans_21 (lv_at hl 0 rfl) ?_
        refine lv_sipush (v := nI 576) S.1 S.2.1 dX1_spans_23 (by decide) ?_
        refine n_icmp_ge (tgt := 67) S (by omega) (by omega) dX1_spans_26 (by decide) (fun c26 => ?_) (fun c26 => ?_)
        · refine lv_iload S.1 S.2.1 dX1_spans_67 (lv_at hl 1 rfl) ?_
          exact hret _ _ dX1_spans_69 rfl ⟨Or.inr ⟨i, hY, by rw [hv, show c5 = 576 by omega]; rfl⟩, hkp⟩ hw
        · refine lv_iload_n S.1 S.2.1 dX1_spans_29 rfl (lv_at hl 2 rfl) ?_
          refine n_if_lt (tgt := 67) S (by omega) dX1_spans_30 (by decide) ?_
          refine lv_iload S.1 S.2.1 dX1_spans_33 (lv_at hl 1 rfl) ?_
          refine lv_aload_n S.1 S.2.1 dX1_spans_35 rfl (lv_at hl 3 rfl) ?_
          refine m_g4 S hw dX1_spans_36 ?_
          refine lv_bipush (v := nI 24) S.1 S.2.1 dX1_spans_39 (by decide) ?_
          refine lv_iload_n S.1 S.2.1 dX1_spans_41 rfl (lv_at hl 2 rfl) ?_
          refine n_imul S dX1_spans_42 ?_
          refine lv_iload S.1 S.2.1 dX1_spans_43 (lv_at hl 0 rfl) ?_
          refine lv_bipush (v := nI 24) S.1 S.2.1 dX1_spans_45 (by decide) ?_
          refine n_idiv S (by omega) (by omega) (by omega) dX1_spans_47 ?_
          refine n_iadd S dX1_spans_48 ?_
          refine m_l4 S hw (by omega) dX1_spans_49 ?_
          refine lv_iload S.1 S.2.1 dX1_spans_50 (lv_at hl 0 rfl) ?_
          refine lv_bipush (v := nI 24) S.1 S.2.1 dX1_spans_52 (by decide) ?_
          refine n_irem S (by omega) (by omega) (by omega) dX1_spans_54 ?_
          refine n_ishr S (by have z1 := hE (c5 / 24) (by omega); rw [z1]; have := EV_lt (x := u 1) (t := u 3) (n := u 2 0) hz (u 2 0) (i + 1) (c5 / 24); omega) (by omega) dX1_spans_55 ?_
          refine lv_iconst (v := nI 1) S.1 S.2.1 dX1_spans_56 (by decide) ?_
          refine n_iand S dX1_spans_57 ?_
          refine n_iadd S dX1_spans_58 ?_
          refine lv_istore (lv' := [(4, .int (nI (v + (((u1 4 ((24 * (i + 1)) + (c5 / 24))) >>> (c5 % 24)) &&& 1)))), (5, .int (nI c5)), (3, .int (nI (i + 1))), (0, .ref (h 0))]) S.1 S.2.1 dX1_spans_59 hl (by decide) rfl (fun ls hl => ?_)
          refine n_iinc (k := 1) (lv' := [(5, .int (nI (c5 + 1))), (4, .int (nI (v + (((u1 4 ((24 * (i + 1)) + (c5 / 24))) >>> (c5 % 24)) &&& 1)))), (3, .int (nI (i + 1))), (0, .ref (h 0))]) S dX1_spans_61 hl rfl (by decide) rfl (fun ls hl => ?_)
          refine lv_goto (tgt := 21) S.1 S.2.1 dX1_spans_64 (by decide) ?_
          exact ih (c5 + 1) (v + (((u1 4 ((24 * (i + 1)) + (c5 / 24))) >>> (c5 % 24)) &&& 1)) (by omega) (by omega) (by rw [spf_s, hv, hE (c5 / 24) (by omega)]) _ _ _ hw (lv_sub hl [0, 1, 2, 3] rfl)
    exact lp 577 0 0 (by omega) (by omega) rfl _ _ _ hw (lv_sub hl [0, 1, 2, 3] rfl)
set_option maxHeartbeats 4000000 in
theorem mM_begins (l : Launch) (D : va_G) (h : Nat → Nat) (d : Nat → ClassId) (u : gU) (g a b : Int32) (hI : mI u) : gMi l yX1_begins cX1_begins 6 .int (rk 4) D (mL h d) (mT d) [.ref (h 0), .int g, .int a, .int b] u (fun r u' => beR (u 0) (u 1) (u 3) (u 2 0) g a b r ∧ km u u') := by
  refine gMi_of (by decide) (Nat.le_of_ble_eq_true rfl) ?_
  intro p e s m args below meth c A Q ls S hw hl hret
  have S : CallFix p m c cX1_begins 6 s args lw_all RX1 := S
  have hl : lv_has ls 6 [(0, .ref (h 0)), (1, .int g), (2, .int a), (3, .int b)] := hl
  refine lv_aload_n S.1 S.2.1 dX1_begins_0 rfl (lv_at hl 0 rfl) ?_
  refine lv_iload_n S.1 S.2.1 dX1_begins_1 rfl (lv_at hl 1 rfl) ?_
  refine lv_iload_n S.1 S.2.1 dX1_begins_2 rfl (lv_at hl 2 rfl) ?_
  refine g_calli (As := [.int g, .int a]) (rest := []) S hw (b := h 0) rfl rfl (mM_find l D h d u g a hI) (cw_X1_X1_find S.2.2.2.2 ⟨by decide, by decide⟩) rfl hl.1 rfl (Nat.le_of_ble_eq_true rfl) dX1_begins_3 ⟨Nat.zero_le _, Nat.zero_le _⟩ (fun r1 u1 H locs hp1 hw => ?_)
  obtain ⟨hkp, hS⟩ := hp1
  have hz := hI.1 (ix 6 a)
  rcases hS with ⟨hN, rfl⟩ | ⟨i, hY, rfl, hi12, hE⟩
  · refine lv_istore (lv' := [(4, .int ((-1))), (0, .ref (h 0)), (1, .int g), (2, .int a), (3, .int b)]) S.1 S.2.1 dX1_begins_6 hl (by decide) rfl (fun ls hl => ?_)
    refine lv_iconst (v := nI 0) S.1 S.2.1 dX1_begins_8 (by decide) ?_
    refine lv_istore (lv' := [(5, .int (nI 0)), (4, .int ((-1))), (0, .ref (h 0)), (1, .int g), (2, .int a), (3, .int b)]) S.1 S.2.1 dX1_begins_9 hl (by decide) rfl (fun ls hl => ?_)
    refine lv_iload S.1 S.2.1 dX1_begins_11 (lv_at hl 0 rfl) ?_
    refine lv_bipush (v := nI 24) S.1 S.2.1 dX1_begins_13 (by decide) ?_
    refine n_icmp_ge (tgt := 54) S (by omega) (by omega) dX1_begins_15 (by decide) (fun c15 => ?_) (fun c15 => ?_)
    · exact absurd c15 (by omega)
    · refine lv_iload S.1 S.2.1 dX1_begins_18 (lv_at hl 1 rfl) ?_
      refine lv_if_lt (tgt := 54) S.1 S.2.1 dX1_begins_20 (by decide) (fun c20 => ?_) (fun c20 => ?_)
      · refine lv_iconst (v := (-1)) S.1 S.2.1 dX1_begins_54 (by decide) ?_
        exact hret _ _ dX1_begins_55 rfl (⟨Or.inl ⟨hN, rfl⟩, hkp⟩) hw
      · exact absurd (by decide) c20
  · refine lv_istore (lv' := [(4, .int (nI (i + 1))), (0, .ref (h 0)), (1, .int g), (2, .int a), (3, .int b)]) S.1 S.2.1 dX1_begins_6 hl (by decide) rfl (fun ls hl => ?_)
    refine lv_iconst (v := nI 0) S.1 S.2.1 dX1_begins_8 (by decide) ?_
    refine lv_istore (lv' := [(5, .int (nI 0)), (4, .int (nI (i + 1))), (0, .ref (h 0)), (1, .int g), (2, .int a), (3, .int b)]) S.1 S.2.1 dX1_begins_9 hl (by decide) rfl (fun ls hl => ?_)
    have lp : ∀ (n : Nat) (c5 : Nat), (c5 ≤ 24) → (25 ≤ c5 + n) → (∀ c, c < c5 → ¬ (b ≤ nI c ∧ EV (u 0) (u 1) (ix 6 a) (u 3) (u 2 0) (u 2 0) (i + 1) c ≠ 0)) → ∀ (H : Heap) (locs : List Loc) (ls : Array Slot), mW D h d A s H locs u1 → lv_has ls 6 [(5, .int (nI c5)), (4, .int (nI (i + 1))), (0, .ref (h 0)), (3, .int b)] → W p l e (rk 4) s m args below meth c H locs 0 0 Q (F0 m 11 ls []) := by
      intro n
      induction n with
      | zero =>
        intro c5 hc hn hno
        exfalso; omega
      | succ n ih =>
        intro c5 hc hn hno H locs ls hw hl
        refine lv_iload S.1 S.2.1 dX1_begins_11 (lv_at hl 0 rfl) ?_
        refine lv_bipush (v := nI 24) S.1 S.2.1 dX1_begins_13 (by decide) ?_
        refine n_icmp_ge (tgt := 54) S (by omega) (by omega) dX1_begins_15 (by decide) (fun c15 => ?_) (fun c15 => ?_)
        · refine lv_iconst (v := (-1)) S.1 S.2.1 dX1_begins_54 (by decide) ?_
          exact hret _ _ dX1_begins_55 rfl ⟨Or.inr ⟨i, hY, Or.inr ⟨fun c hc => hno c (by omega), rfl⟩⟩, hkp⟩ hw
        · refine lv_iload S.1 S.2.1 dX1_begins_18 (lv_at hl 1 rfl) ?_
          refine n_if_lt (tgt := 54) S (by omega) dX1_begins_20 (by decide) ?_
          refine lv_iload S.1 S.2.1 dX1_begins_23 (lv_at hl 0 rfl) ?_
          refine lv_iload_n S.1 S.2.1 dX1_begins_25 rfl (lv_at hl 3 rfl) ?_
          refine lv_icmp_lt (tgt := 48) S.1 S.2.1 dX1_begins_26 (by decide) (fun c26 => ?_) (fun c26 => ?_)
          · refine n_iinc (k := 0) (lv' := [(5, .int (nI (c5 + 1))), (4, .int (nI (i + 1))), (0, .ref (h 0)), (3, .int b)]) S dX1_begins_48 hl rfl (by decide) rfl (fun ls hl => ?_)
            refine lv_goto (tgt := 11) S.1 S.2.1 dX1_begins_51 (by decide) ?_
            exact ih (c5 + 1) (by omega) (by omega) (fun c hc => by rcases Nat.lt_succ_iff_lt_or_eq.mp hc with q | q; (exact hno c q); (subst q; exact fun z => Int32.not_lt.mpr z.1 c26)) _ _ _ hw (lv_sub hl [0, 1, 2, 3] rfl)
          · refine lv_aload_n S.1 S.2.1 dX1_begins_29 rfl (lv_at hl 2 rfl) ?_
            refine m_g4 S hw dX1_begins_30 ?_
            refine lv_bipush (v := nI 24) S.1 S.2.1 dX1_begins_33 (by decide) ?_
            refine lv_iload S.1 S.2.1 dX1_begins_35 (lv_at hl 1 rfl) ?_
            refine n_imul S dX1_begins_37 ?_
            refine lv_iload S.1 S.2.1 dX1_begins_38 (lv_at hl 0 rfl) ?_
            refine n_iadd S dX1_begins_40 ?_
            refine m_l4 S hw (by omega) dX1_begins_41 ?_
            refine n_if_eq (tgt := 48) S (by have z1 := hE c5 (by omega); rw [z1]; have := EV_lt (x := u 1) (t := u 3) (n := u 2 0) hz (u 2 0) (i + 1) c5; omega) dX1_begins_42 (by decide) (fun c42 => ?_) (fun c42 => ?_)
            · refine n_iinc (k := 0) (lv' := [(5, .int (nI (c5 + 1))), (4, .int (nI (i + 1))), (0, .ref (h 0)), (3, .int b)]) S dX1_begins_48 hl rfl (by decide) rfl (fun ls hl => ?_)
              refine lv_goto (tgt := 11) S.1 S.2.1 dX1_begins_51 (by decide) ?_
              exact ih (c5 + 1) (by omega) (by omega) (fun c hc => by rcases Nat.lt_succ_iff_lt_or_eq.mp hc with q | q; (exact hno c q); (subst q; exact fun z => z.2 (by rw [← hE c (by omega)]; exact c42))) _ _ _ hw (lv_sub hl [0, 1, 2, 3] rfl)
            · refine lv_iload S.1 S.2.1 dX1_begins_45 (lv_at hl 0 rfl) ?_
              exact hret _ _ dX1_begins_47 rfl ⟨Or.inr ⟨i, hY, Or.inl ⟨c5, by omega, ⟨Int32.not_lt.mp c26, by rw [← hE c5 (by omega)]; exact c42⟩, hno, rfl⟩⟩, hkp⟩ hw
    exact lp 25 0 (by omega) (by omega) (fun c hc => absurd hc (by omega)) _ _ _ hw (lv_sub hl [0, 1, 2, 5] rfl)
set_option maxHeartbeats 4000000 in
theorem mM_ends (l : Launch) (D : va_G) (h : Nat → Nat) (d : Nat → ClassId) (u : gU) (g a b : Int32) (hI : mI u) : gMi l yX1_ends cX1_ends 6 .int (rk 4) D (mL h d) (mT d) [.ref (h 0), .int g, .int a, .int b] u (fun r u' => enR (u 0) (u 1) (u 3) (u 2 0) g a b r ∧ km u u') := by
  refine gMi_of (by decide) (Nat.le_of_ble_eq_true rfl) ?_
  intro p e s m args below meth c A Q ls S hw hl hret
  have S : CallFix p m c cX1_ends 6 s args lw_all RX1 := S
  have hl : lv_has ls 6 [(0, .ref (h 0)), (1, .int g), (2, .int a), (3, .int b)] := hl
  refine lv_aload_n S.1 S.2.1 dX1_ends_0 rfl (lv_at hl 0 rfl) ?_
  refine lv_iload_n S.1 S.2.1 dX1_ends_1 rfl (lv_at hl 1 rfl) ?_
  refine lv_iload_n S.1 S.2.1 dX1_ends_2 rfl (lv_at hl 2 rfl) ?_
  refine g_calli (As := [.int g, .int a]) (rest := []) S hw (b := h 0) rfl rfl (mM_find l D h d u g a hI) (cw_X1_X1_find S.2.2.2.2 ⟨by decide, by decide⟩) rfl hl.1 rfl (Nat.le_of_ble_eq_true rfl) dX1_ends_3 ⟨Nat.zero_le _, Nat.zero_le _⟩ (fun r1 u1 H locs hp1 hw => ?_)
  obtain ⟨hkp, hS⟩ := hp1
  have hz := hI.1 (ix 6 a)
  rcases hS with ⟨hN, rfl⟩ | ⟨i, hY, rfl, hi12, hE⟩
  · refine lv_istore (lv' := [(4, .int ((-1))), (0, .ref (h 0)), (1, .int g), (2, .int a), (3, .int b)]) S.1 S.2.1 dX1_ends_6 hl (by decide) rfl (fun ls hl => ?_)
    refine lv_iconst (v := nI 0) S.1 S.2.1 dX1_ends_8 (by decide) ?_
    refine lv_istore (lv' := [(5, .int (nI 0)), (4, .int ((-1))), (0, .ref (h 0)), (1, .int g), (2, .int a), (3, .int b)]) S.1 S.2.1 dX1_ends_9 hl (by decide) rfl (fun ls hl => ?_)
    refine lv_iload S.1 S.2.1 dX1_ends_11 (lv_at hl 0 rfl) ?_
    refine lv_bipush (v := nI 24) S.1 S.2.1 dX1_ends_13 (by decide) ?_
    refine n_icmp_ge (tgt := 63) S (by omega) (by omega) dX1_ends_15 (by decide) (fun c15 => ?_) (fun c15 => ?_)
    · exact absurd c15 (by omega)
    · refine lv_iload S.1 S.2.1 dX1_ends_18 (lv_at hl 1 rfl) ?_
      refine lv_if_lt (tgt := 63) S.1 S.2.1 dX1_ends_20 (by decide) (fun c20 => ?_) (fun c20 => ?_)
      · refine lv_iconst (v := (-1)) S.1 S.2.1 dX1_ends_63 (by decide) ?_
        exact hret _ _ dX1_ends_64 rfl (⟨Or.inl ⟨Or.inl hN, rfl⟩, hkp⟩) hw
      · exact absurd (by decide) c20
  · by_cases hb0 : b < 0
    · refine lv_istore (lv' := [(4, .int (nI (i + 1))), (0, .ref (h 0)), (1, .int g), (2, .int a), (3, .int b)]) S.1 S.2.1 dX1_ends_6 hl (by decide) rfl (fun ls hl => ?_)
      refine lv_iconst (v := nI 0) S.1 S.2.1 dX1_ends_8 (by decide) ?_
      refine lv_istore (lv' := [(5, .int (nI 0)), (4, .int (nI (i + 1))), (0, .ref (h 0)), (1, .int g), (2, .int a), (3, .int b)]) S.1 S.2.1 dX1_ends_9 hl (by decide) rfl (fun ls hl => ?_)
      refine lv_iload S.1 S.2.1 dX1_ends_11 (lv_at hl 0 rfl) ?_
      refine lv_bipush (v := nI 24) S.1 S.2.1 dX1_ends_13 (by decide) ?_
      refine n_icmp_ge (tgt := 63) S (by omega) (by omega) dX1_ends_15 (by decide) (fun c15 => ?_) (fun c15 => ?_)
      · exact absurd c15 (by omega)
      · refine lv_iload S.1 S.2.1 dX1_ends_18 (lv_at hl 1 rfl) ?_
        refine n_if_lt (tgt := 63) S (by omega) dX1_ends_20 (by decide) ?_
        refine lv_iload_n S.1 S.2.1 dX1_ends_23 rfl (lv_at hl 5 rfl) ?_
        refine lv_if_lt (tgt := 63) S.1 S.2.1 dX1_ends_24 (by decide) (fun c24 => ?_) (fun c24 => ?_)
        · refine lv_iconst (v := (-1)) S.1 S.2.1 dX1_ends_63 (by decide) ?_
          exact hret _ _ dX1_ends_64 rfl (⟨Or.inl ⟨Or.inr (by rw [ix_neg hb0]; omega), rfl⟩, hkp⟩) hw
        · exact absurd hb0 c24
    · obtain ⟨bb, hb', rfl⟩ := nI_of hb0
      by_cases hb24 : bb < 24
      · have hib : ix 24 (nI bb) = bb := ix_in hb' hb24
        have hEb := hE bb hb24
        have hlt : u1 4 (24 * (i + 1) + bb) < 2 ^ 24 := by rw [hEb]; exact EV_lt hz _ _ _
        refine lv_istore (lv' := [(4, .int (nI (i + 1))), (0, .ref (h 0)), (1, .int g), (2, .int a), (3, .int (nI bb))]) S.1 S.2.1 dX1_ends_6 hl (by decide) rfl (fun ls hl => ?_)
        refine lv_iconst (v := nI 0) S.1 S.2.1 dX1_ends_8 (by decide) ?_
        refine lv_istore (lv' := [(5, .int (nI 0)), (4, .int (nI (i + 1))), (0, .ref (h 0)), (1, .int g), (2, .int a), (3, .int (nI bb))]) S.1 S.2.1 dX1_ends_9 hl (by decide) rfl (fun ls hl => ?_)
        have lp : ∀ (n : Nat) (c5 : Nat), (c5 ≤ 24) → (25 ≤ c5 + n) → (∀ e, e < c5 → ¬ (u1 4 (24 * (i + 1) + bb)).testBit e = true) → ∀ (H : Heap) (locs : List Loc) (ls : Array Slot), mW D h d A s H locs u1 → lv_has ls 6 [(5, .int (nI c5)), (4, .int (nI (i + 1))), (0, .ref (h 0)), (3, .int (nI bb))] → W p l e (rk 4) s m args below meth c H locs 0 0 Q (F0 m 11 ls []) := by
          intro n
          induction n with
          | zero =>
            intro c5 hc hn hno
            exfalso; omega
          | succ n ih =>
            intro c5 hc hn hno H locs ls hw hl
            refine lv_iload S.1 S.2.1 dX1_ends_11 (lv_at hl 0 rfl) ?_
            refine lv_bipush (v := nI 24) S.1 S.2.1 dX1_ends_13 (by decide) ?_
            refine n_icmp_ge (tgt := 63) S (by omega) (by omega) dX1_ends_15 (by decide) (fun c15 => ?_) (fun c15 => ?_)
            · refine lv_iconst (v := (-1)) S.1 S.2.1 dX1_ends_63 (by decide) ?_
              exact hret _ _ dX1_ends_64 rfl ⟨Or.inr ⟨i, hY, by rw [hib]; exact hb24, Or.inr ⟨fun e he q => hno e (by omega) (by rw [hEb]; rw [hib] at q; exact q), rfl⟩⟩, hkp⟩ hw
            · refine lv_iload S.1 S.2.1 dX1_ends_18 (lv_at hl 1 rfl) ?_
              refine n_if_lt (tgt := 63) S (by omega) dX1_ends_20 (by decide) ?_
              refine lv_iload_n S.1 S.2.1 dX1_ends_23 rfl (lv_at hl 3 rfl) ?_
              refine n_if_lt (tgt := 63) S (by omega) dX1_ends_24 (by decide) ?_
              refine lv_iload_n S.1 S.2.1 dX1_ends_27 rfl (lv_at hl 3 rfl) ?_
              refine lv_bipush (v := nI 24) S.1 S.2.1 dX1_ends_28 (by decide) ?_
              refine n_icmp_ge (tgt := 63) S (by omega) (by omega) dX1_ends_30 (by decide) (fun c30 => ?_) (fun c30 => ?_)
              · exact absurd c30 (by omega)
              · refine lv_aload_n S.1 S.2.1 dX1_ends_33 rfl (lv_at hl 2 rfl) ?_
                refine m_g4 S hw dX1_ends_34 ?_
                refine lv_bipush (v := nI 24) S.1 S.2.1 dX1_ends_37 (by decide) ?_
                refine lv_iload S.1 S.2.1 dX1_ends_39 (lv_at hl 1 rfl) ?_
                refine n_imul S dX1_ends_41 ?_
                refine lv_iload_n S.1 S.2.1 dX1_ends_42 rfl (lv_at hl 3 rfl) ?_
                refine n_iadd S dX1_ends_43 ?_
                refine m_l4 S hw (by omega) dX1_ends_44 ?_
                refine lv_iload S.1 S.2.1 dX1_ends_45 (lv_at hl 0 rfl) ?_
                refine n_ishr S (by omega) (by omega) dX1_ends_47 ?_
                refine lv_iconst (v := nI 1) S.1 S.2.1 dX1_ends_48 (by decide) ?_
                refine n_iand S dX1_ends_49 ?_
                refine lv_iconst (v := nI 1) S.1 S.2.1 dX1_ends_50 (by decide) ?_
                refine n_icmp_ne (tgt := 57) S (by have := bt_2 (u1 4 (24 * (i + 1) + bb)) c5; omega) (by omega) dX1_ends_51 (by decide) (fun c51 => ?_) (fun c51 => ?_)
                · refine n_iinc (k := 0) (lv' := [(5, .int (nI (c5 + 1))), (4, .int (nI (i + 1))), (0, .ref (h 0)), (3, .int (nI bb))]) S dX1_ends_57 hl rfl (by decide) rfl (fun ls hl => ?_)
                  refine lv_goto (tgt := 11) S.1 S.2.1 dX1_ends_60 (by decide) ?_
                  exact ih (c5 + 1) (by omega) (by omega) (fun e he q => by rcases Nat.lt_succ_iff_lt_or_eq.mp he with r | r; (exact hno e r q); (subst r; rw [bt_n1 c51] at q; cases q)) _ _ _ hw (lv_sub hl [0, 1, 2, 3] rfl)
                · refine lv_iload S.1 S.2.1 dX1_ends_54 (lv_at hl 0 rfl) ?_
                  exact hret _ _ dX1_ends_56 rfl ⟨Or.inr ⟨i, hY, by rw [hib]; exact hb24, Or.inl ⟨c5, by omega, by rw [hib, ← hEb]; exact bt_e1 c51, fun e he q => hno e he (by rw [hEb]; rw [hib] at q; exact q), rfl⟩⟩, hkp⟩ hw
        exact lp 25 0 (by omega) (by omega) (fun e he => absurd he (by omega)) _ _ _ hw (lv_sub hl [0, 1, 2, 5] rfl)
      · refine lv_istore (lv' := [(4, .int (nI (i + 1))), (0, .ref (h 0)), (1, .int g), (2, .int a), (3, .int (nI bb))]) S.1 S.2.1 dX1_ends_6 hl (by decide) rfl (fun ls hl => ?_)
        refine lv_iconst (v := nI 0) S.1 S.2.1 dX1_ends_8 (by decide) ?_
        refine lv_istore (lv' := [(5, .int (nI 0)), (4, .int (nI (i + 1))), (0, .ref (h 0)), (1, .int g), (2, .int a), (3, .int (nI bb))]) S.1 S.2.1 dX1_ends_9 hl (by decide) rfl (fun ls hl => ?_)
        refine lv_iload S.1 S.2.1 dX1_ends_11 (lv_at hl 0 rfl) ?_
        refine lv_bipush (v := nI 24) S.1 S.2.1 dX1_ends_13 (by decide) ?_
        refine n_icmp_ge (tgt := 63) S (by omega) (by omega) dX1_ends_15 (by decide) (fun c15 => ?_) (fun c15 => ?_)
        · exact absurd c15 (by omega)
        · refine lv_iload S.1 S.2.1 dX1_ends_18 (lv_at hl 1 rfl) ?_
          refine n_if_lt (tgt := 63) S (by omega) dX1_ends_20 (by decide) ?_
          refine lv_iload_n S.1 S.2.1 dX1_ends_23 rfl (lv_at hl 5 rfl) ?_
          refine n_if_lt (tgt := 63) S (by omega) dX1_ends_24 (by decide) ?_
          refine lv_iload_n S.1 S.2.1 dX1_ends_27 rfl (lv_at hl 5 rfl) ?_
          refine lv_bipush (v := nI 24) S.1 S.2.1 dX1_ends_28 (by decide) ?_
          refine n_icmp_ge (tgt := 63) S (by omega) (by omega) dX1_ends_30 (by decide) (fun c30 => ?_) (fun c30 => ?_)
          · refine lv_iconst (v := (-1)) S.1 S.2.1 dX1_ends_63 (by decide) ?_
            exact hret _ _ dX1_ends_64 rfl (⟨Or.inl ⟨Or.inr (by rw [ix_nI hb']; omega), rfl⟩, hkp⟩) hw
          · exact absurd c30 (by omega)
end
section
/-! the two constructors, printed by gen/init.py -/
set_option maxRecDepth 100000
abbrev xN : List Value := [.null, .null, .null, .null, .int 0, .null, .null, .null, .int 0, .null, .null]
set_option maxHeartbeats 4000000 in
theorem iX_init (l : Launch) (D : va_G) (h0 sz : Nat) : Met l yX0_init (ws_ yX0_init cX0_init 1 none) ({ frames := 1, cells := 9, slots := 574, locals := 12 } : Room) (va_Pc [.ref h0] (fun U => U.heap.size = sz ∧ va_P D vwCl [(h0, .inr (0, xN))] U.heap ∧ va_K D vwCl [] U ∧ va_D (fun _ => True) [(h0, .inr (0, xN))])) (va_Qv (fun hd : (Nat → Nat) × (Nat → ClassId) => hd.1 0 = h0) (fun hd t => va_P D vwCl (xL hd.1 hd.2 (fun _ _ => 0)) t.heap ∧ va_K D vwCl (xT hd.2) t ∧ va_D (va_A [(h0, .inr (0, xN))] sz) (xL hd.1 hd.2 (fun _ _ => 0))) (va_A [(h0, .inr (0, xN))] sz)) 9 574 (va_A [(h0, .inr (0, xN))] sz) := by
  refine Met.ofW (cc := cX0_init) (maxL := 1) (ret := none) (by decide) rfl ?_
  intro p e s m args below meth c s₁ B hml hv
  obtain ⟨rfl, hsz, hP, hK, hD0⟩ := hv
  have hx := B.exec
  have hb := B.bytes
  have hr := B.returns
  have hts := atoms_spec (ws := ws_ yX0_init cX0_init 1 none) B.pre
  have hts : ∀ w ∈ lw_all, w.before _ s = true := fun w h => hts w (List.mem_cons_of_mem _ h)
  have hown : s.vm.findClass RX0 = some m.cls := findClass_of_methodNamed B.named
  have hlocks := B.notSynchronized
  have hin : meth.name = "<init>" := (name_of_methodNamed B.named B.method).1
  subst hsz
  have hD := hD0.self (sz := s.heap.size)
  generalize hAe : va_A [(h0, .inr (0, xN))] s.heap.size = A at hD ⊢
  have hA : ∀ q : Nat, s.heap.size ≤ q → A q := fun q h => by rw [← hAe]; exact Or.inr h
  have hS : va_S A s.heap s.heap [] := va_S.rf
  have hl := lv_entry ([.ref h0]) (n := 1) (Nat.le_of_ble_eq_true rfl)
  rw [lg_entry_eq]
  generalize (lg_sl ([.ref h0]) ++ List.replicate (1 - (lg_sl ([.ref h0])).length) Slot.unset).toArray = ls at hl ⊢
  have hl : lv_has ls 1 [(0, .ref h0)] := hl
  refine lv_aload_n hx hb dX0_init_0 rfl (lv_at hl 0 rfl) ?_
  refine W.objInit hx hb hown (hts _ q26) (hts _ q27) (hts _ q28) rfl (by rw [hml]; exact hl.1) rfl dX0_init_1 (Nat.le_of_ble_eq_true rfl) (Nat.le_of_ble_eq_true rfl) ?_
  refine W.eq (g2 := F0 m 4 ls []) rfl ?_
  refine lv_aload_n hx hb dX0_init_4 rfl (lv_at hl 0 rfl) ?_
  refine lv_bipush (v := 6) hx hb dX0_init_5 (by decide) ?_
  refine va_newa (atype := .byte) (ty := .byte) (n := 6) (N' := 6) (a0 := (6, .inl (fun _ => nI 0))) hx hb (hts _ q63) rfl hK hP hD hS hA (fun _ => rfl) (by decide) (by decide) (by decide) (Nat.le_of_ble_eq_true rfl) (Nat.le_of_ble_eq_true rfl) dX0_init_7 (fun a0 k0 H hK hP hD hS => ?_)
  have hP : va_P D vwCl [(h0, .inr (0, [.null, .null, .null, .null, .int 0, .null, .null, .null, .int 0, .null, .null])), (a0, .inl (k0, 6, .inl (fun _ => nI 0)))] H := hP
  have hD : va_D A [(h0, .inr (0, [.null, .null, .null, .null, .int 0, .null, .null, .null, .int 0, .null, .null])), (a0, .inl (k0, 6, .inl (fun _ => nI 0)))] := hD
  have hK : va_K D vwCl [(k0, .byte)] s := hK
  refine W.widen (k := 1) (n := 6) (Nat.le_of_ble_eq_true rfl) (Nat.le_of_ble_eq_true rfl) ?_
  refine va_putF (D := D) (ci := 0) (v := .ref a0) (ty := .array .byte) (C := RX0) (T := TX0) (N := 11) hx hb hts in_X0 tyX0 tyX0_ok nmX0 hown hK hP hD hS 0 rfl rfl 0 (by decide) (hts _ q29) (fun _ h9 => h9) rfl hin rfl (by decide +kernel) rfl rfl (Nat.le_of_ble_eq_true rfl) dX0_init_9 (fun H locs hP hD hS => ?_)
  have hP : va_P D vwCl [(h0, .inr (0, [.ref a0, .null, .null, .null, .int 0, .null, .null, .null, .int 0, .null, .null])), (a0, .inl (k0, 6, .inl (fun _ => nI 0)))] H := hP
  have hD : va_D A [(h0, .inr (0, [.ref a0, .null, .null, .null, .int 0, .null, .null, .null, .int 0, .null, .null])), (a0, .inl (k0, 6, .inl (fun _ => nI 0)))] := hD
  refine lv_aload_n hx hb dX0_init_12 rfl (lv_at hl 0 rfl) ?_
  refine lv_sipush (v := 144) hx hb dX0_init_13 (by decide) ?_
  refine va_newa (atype := .byte) (ty := .byte) (n := 144) (N' := 144) (a0 := (144, .inl (fun _ => nI 0))) hx hb (hts _ q63) rfl hK hP hD hS hA (fun _ => rfl) (by decide) (by decide) (by decide) (Nat.le_of_ble_eq_true rfl) (Nat.le_of_ble_eq_true rfl) dX0_init_16 (fun a1 k1 H hK hP hD hS => ?_)
  have hP : va_P D vwCl [(h0, .inr (0, [.ref a0, .null, .null, .null, .int 0, .null, .null, .null, .int 0, .null, .null])), (a0, .inl (k0, 6, .inl (fun _ => nI 0))), (a1, .inl (k1, 144, .inl (fun _ => nI 0)))] H := hP
  have hD : va_D A [(h0, .inr (0, [.ref a0, .null, .null, .null, .int 0, .null, .null, .null, .int 0, .null, .null])), (a0, .inl (k0, 6, .inl (fun _ => nI 0))), (a1, .inl (k1, 144, .inl (fun _ => nI 0)))] := hD
  have hK : va_K D vwCl [(k0, .byte), (k1, .byte)] s := hK
  refine W.widen (k := 2) (n := 150) (Nat.le_of_ble_eq_true rfl) (Nat.le_of_ble_eq_true rfl) ?_
  refine va_putF (D := D) (ci := 0) (v := .ref a1) (ty := .array .byte) (C := RX0) (T := TX0) (N := 11) hx hb hts in_X0 tyX0 tyX0_ok nmX0 hown hK hP hD hS 0 rfl rfl 1 (by decide) (hts _ q30) (fun _ h9 => h9) rfl hin rfl (by decide +kernel) rfl rfl (Nat.le_of_ble_eq_true rfl) dX0_init_18 (fun H locs hP hD hS => ?_)
  have hP : va_P D vwCl [(h0, .inr (0, [.ref a0, .ref a1, .null, .null, .int 0, .null, .null, .null, .int 0, .null, .null])), (a0, .inl (k0, 6, .inl (fun _ => nI 0))), (a1, .inl (k1, 144, .inl (fun _ => nI 0)))] H := hP
  have hD : va_D A [(h0, .inr (0, [.ref a0, .ref a1, .null, .null, .int 0, .null, .null, .null, .int 0, .null, .null])), (a0, .inl (k0, 6, .inl (fun _ => nI 0))), (a1, .inl (k1, 144, .inl (fun _ => nI 0)))] := hD
  refine lv_aload_n hx hb dX0_init_21 rfl (lv_at hl 0 rfl) ?_
  refine lv_bipush (v := 72) hx hb dX0_init_22 (by decide) ?_
  refine va_newa (atype := .int) (ty := .int) (n := 72) (N' := 72) (a0 := (72, .inl (fun _ => nI 0))) hx hb (hts _ q64) rfl hK hP hD hS hA (fun _ => rfl) (by decide) (by decide) (by decide) (Nat.le_of_ble_eq_true rfl) (Nat.le_of_ble_eq_true rfl) dX0_init_24 (fun a2 k2 H hK hP hD hS => ?_)
  have hP : va_P D vwCl [(h0, .inr (0, [.ref a0, .ref a1, .null, .null, .int 0, .null, .null, .null, .int 0, .null, .null])), (a0, .inl (k0, 6, .inl (fun _ => nI 0))), (a1, .inl (k1, 144, .inl (fun _ => nI 0))), (a2, .inl (k2, 72, .inl (fun _ => nI 0)))] H := hP
  have hD : va_D A [(h0, .inr (0, [.ref a0, .ref a1, .null, .null, .int 0, .null, .null, .null, .int 0, .null, .null])), (a0, .inl (k0, 6, .inl (fun _ => nI 0))), (a1, .inl (k1, 144, .inl (fun _ => nI 0))), (a2, .inl (k2, 72, .inl (fun _ => nI 0)))] := hD
  have hK : va_K D vwCl [(k0, .byte), (k1, .byte), (k2, .int)] s := hK
  refine W.widen (k := 3) (n := 222) (Nat.le_of_ble_eq_true rfl) (Nat.le_of_ble_eq_true rfl) ?_
  refine va_putF (D := D) (ci := 0) (v := .ref a2) (ty := .array .int) (C := RX0) (T := TX0) (N := 11) hx hb hts in_X0 tyX0 tyX0_ok nmX0 hown hK hP hD hS 0 rfl rfl 2 (by decide) (hts _ q31) (fun _ h9 => h9) rfl hin rfl (by decide +kernel) rfl rfl (Nat.le_of_ble_eq_true rfl) dX0_init_26 (fun H locs hP hD hS => ?_)
  have hP : va_P D vwCl [(h0, .inr (0, [.ref a0, .ref a1, .ref a2, .null, .int 0, .null, .null, .null, .int 0, .null, .null])), (a0, .inl (k0, 6, .inl (fun _ => nI 0))), (a1, .inl (k1, 144, .inl (fun _ => nI 0))), (a2, .inl (k2, 72, .inl (fun _ => nI 0)))] H := hP
  have hD : va_D A [(h0, .inr (0, [.ref a0, .ref a1, .ref a2, .null, .int 0, .null, .null, .null, .int 0, .null, .null])), (a0, .inl (k0, 6, .inl (fun _ => nI 0))), (a1, .inl (k1, 144, .inl (fun _ => nI 0))), (a2, .inl (k2, 72, .inl (fun _ => nI 0)))] := hD
  refine lv_aload_n hx hb dX0_init_29 rfl (lv_at hl 0 rfl) ?_
  refine lv_bipush (v := 12) hx hb dX0_init_30 (by decide) ?_
  refine va_newa (atype := .byte) (ty := .byte) (n := 12) (N' := 12) (a0 := (12, .inl (fun _ => nI 0))) hx hb (hts _ q63) rfl hK hP hD hS hA (fun _ => rfl) (by decide) (by decide) (by decide) (Nat.le_of_ble_eq_true rfl) (Nat.le_of_ble_eq_true rfl) dX0_init_32 (fun a3 k3 H hK hP hD hS => ?_)
  have hP : va_P D vwCl [(h0, .inr (0, [.ref a0, .ref a1, .ref a2, .null, .int 0, .null, .null, .null, .int 0, .null, .null])), (a0, .inl (k0, 6, .inl (fun _ => nI 0))), (a1, .inl (k1, 144, .inl (fun _ => nI 0))), (a2, .inl (k2, 72, .inl (fun _ => nI 0))), (a3, .inl (k3, 12, .inl (fun _ => nI 0)))] H := hP
  have hD : va_D A [(h0, .inr (0, [.ref a0, .ref a1, .ref a2, .null, .int 0, .null, .null, .null, .int 0, .null, .null])), (a0, .inl (k0, 6, .inl (fun _ => nI 0))), (a1, .inl (k1, 144, .inl (fun _ => nI 0))), (a2, .inl (k2, 72, .inl (fun _ => nI 0))), (a3, .inl (k3, 12, .inl (fun _ => nI 0)))] := hD
  have hK : va_K D vwCl [(k0, .byte), (k1, .byte), (k2, .int), (k3, .byte)] s := hK
  refine W.widen (k := 4) (n := 234) (Nat.le_of_ble_eq_true rfl) (Nat.le_of_ble_eq_true rfl) ?_
  refine va_putF (D := D) (ci := 0) (v := .ref a3) (ty := .array .byte) (C := RX0) (T := TX0) (N := 11) hx hb hts in_X0 tyX0 tyX0_ok nmX0 hown hK hP hD hS 0 rfl rfl 3 (by decide) (hts _ q32) (fun _ h9 => h9) rfl hin rfl (by decide +kernel) rfl rfl (Nat.le_of_ble_eq_true rfl) dX0_init_34 (fun H locs hP hD hS => ?_)
  have hP : va_P D vwCl [(h0, .inr (0, [.ref a0, .ref a1, .ref a2, .ref a3, .int 0, .null, .null, .null, .int 0, .null, .null])), (a0, .inl (k0, 6, .inl (fun _ => nI 0))), (a1, .inl (k1, 144, .inl (fun _ => nI 0))), (a2, .inl (k2, 72, .inl (fun _ => nI 0))), (a3, .inl (k3, 12, .inl (fun _ => nI 0)))] H := hP
  have hD : va_D A [(h0, .inr (0, [.ref a0, .ref a1, .ref a2, .ref a3, .int 0, .null, .null, .null, .int 0, .null, .null])), (a0, .inl (k0, 6, .inl (fun _ => nI 0))), (a1, .inl (k1, 144, .inl (fun _ => nI 0))), (a2, .inl (k2, 72, .inl (fun _ => nI 0))), (a3, .inl (k3, 12, .inl (fun _ => nI 0)))] := hD
  refine lv_aload_n hx hb dX0_init_37 rfl (lv_at hl 0 rfl) ?_
  refine lv_bipush (v := 12) hx hb dX0_init_38 (by decide) ?_
  refine va_newa (atype := .byte) (ty := .byte) (n := 12) (N' := 12) (a0 := (12, .inl (fun _ => nI 0))) hx hb (hts _ q63) rfl hK hP hD hS hA (fun _ => rfl) (by decide) (by decide) (by decide) (Nat.le_of_ble_eq_true rfl) (Nat.le_of_ble_eq_true rfl) dX0_init_40 (fun a5 k5 H hK hP hD hS => ?_)
  have hP : va_P D vwCl [(h0, .inr (0, [.ref a0, .ref a1, .ref a2, .ref a3, .int 0, .null, .null, .null, .int 0, .null, .null])), (a0, .inl (k0, 6, .inl (fun _ => nI 0))), (a1, .inl (k1, 144, .inl (fun _ => nI 0))), (a2, .inl (k2, 72, .inl (fun _ => nI 0))), (a3, .inl (k3, 12, .inl (fun _ => nI 0))), (a5, .inl (k5, 12, .inl (fun _ => nI 0)))] H := hP
  have hD : va_D A [(h0, .inr (0, [.ref a0, .ref a1, .ref a2, .ref a3, .int 0, .null, .null, .null, .int 0, .null, .null])), (a0, .inl (k0, 6, .inl (fun _ => nI 0))), (a1, .inl (k1, 144, .inl (fun _ => nI 0))), (a2, .inl (k2, 72, .inl (fun _ => nI 0))), (a3, .inl (k3, 12, .inl (fun _ => nI 0))), (a5, .inl (k5, 12, .inl (fun _ => nI 0)))] := hD
  have hK : va_K D vwCl [(k0, .byte), (k1, .byte), (k2, .int), (k3, .byte), (k5, .byte)] s := hK
  refine W.widen (k := 5) (n := 246) (Nat.le_of_ble_eq_true rfl) (Nat.le_of_ble_eq_true rfl) ?_
  refine va_putF (D := D) (ci := 0) (v := .ref a5) (ty := .array .byte) (C := RX0) (T := TX0) (N := 11) hx hb hts in_X0 tyX0 tyX0_ok nmX0 hown hK hP hD hS 0 rfl rfl 5 (by decide) (hts _ q34) (fun _ h9 => h9) rfl hin rfl (by decide +kernel) rfl rfl (Nat.le_of_ble_eq_true rfl) dX0_init_42 (fun H locs hP hD hS => ?_)
  have hP : va_P D vwCl [(h0, .inr (0, [.ref a0, .ref a1, .ref a2, .ref a3, .int 0, .ref a5, .null, .null, .int 0, .null, .null])), (a0, .inl (k0, 6, .inl (fun _ => nI 0))), (a1, .inl (k1, 144, .inl (fun _ => nI 0))), (a2, .inl (k2, 72, .inl (fun _ => nI 0))), (a3, .inl (k3, 12, .inl (fun _ => nI 0))), (a5, .inl (k5, 12, .inl (fun _ => nI 0)))] H := hP
  have hD : va_D A [(h0, .inr (0, [.ref a0, .ref a1, .ref a2, .ref a3, .int 0, .ref a5, .null, .null, .int 0, .null, .null])), (a0, .inl (k0, 6, .inl (fun _ => nI 0))), (a1, .inl (k1, 144, .inl (fun _ => nI 0))), (a2, .inl (k2, 72, .inl (fun _ => nI 0))), (a3, .inl (k3, 12, .inl (fun _ => nI 0))), (a5, .inl (k5, 12, .inl (fun _ => nI 0)))] := hD
  refine lv_aload_n hx hb dX0_init_45 rfl (lv_at hl 0 rfl) ?_
  refine lv_bipush (v := 14) hx hb dX0_init_46 (by decide) ?_
  refine va_newa (atype := .byte) (ty := .byte) (n := 14) (N' := 14) (a0 := (14, .inl (fun _ => nI 0))) hx hb (hts _ q63) rfl hK hP hD hS hA (fun _ => rfl) (by decide) (by decide) (by decide) (Nat.le_of_ble_eq_true rfl) (Nat.le_of_ble_eq_true rfl) dX0_init_48 (fun a6 k6 H hK hP hD hS => ?_)
  have hP : va_P D vwCl [(h0, .inr (0, [.ref a0, .ref a1, .ref a2, .ref a3, .int 0, .ref a5, .null, .null, .int 0, .null, .null])), (a0, .inl (k0, 6, .inl (fun _ => nI 0))), (a1, .inl (k1, 144, .inl (fun _ => nI 0))), (a2, .inl (k2, 72, .inl (fun _ => nI 0))), (a3, .inl (k3, 12, .inl (fun _ => nI 0))), (a5, .inl (k5, 12, .inl (fun _ => nI 0))), (a6, .inl (k6, 14, .inl (fun _ => nI 0)))] H := hP
  have hD : va_D A [(h0, .inr (0, [.ref a0, .ref a1, .ref a2, .ref a3, .int 0, .ref a5, .null, .null, .int 0, .null, .null])), (a0, .inl (k0, 6, .inl (fun _ => nI 0))), (a1, .inl (k1, 144, .inl (fun _ => nI 0))), (a2, .inl (k2, 72, .inl (fun _ => nI 0))), (a3, .inl (k3, 12, .inl (fun _ => nI 0))), (a5, .inl (k5, 12, .inl (fun _ => nI 0))), (a6, .inl (k6, 14, .inl (fun _ => nI 0)))] := hD
  have hK : va_K D vwCl [(k0, .byte), (k1, .byte), (k2, .int), (k3, .byte), (k5, .byte), (k6, .byte)] s := hK
  refine W.widen (k := 6) (n := 260) (Nat.le_of_ble_eq_true rfl) (Nat.le_of_ble_eq_true rfl) ?_
  refine va_putF (D := D) (ci := 0) (v := .ref a6) (ty := .array .byte) (C := RX0) (T := TX0) (N := 11) hx hb hts in_X0 tyX0 tyX0_ok nmX0 hown hK hP hD hS 0 rfl rfl 6 (by decide) (hts _ q35) (fun _ h9 => h9) rfl hin rfl (by decide +kernel) rfl rfl (Nat.le_of_ble_eq_true rfl) dX0_init_50 (fun H locs hP hD hS => ?_)
  have hP : va_P D vwCl [(h0, .inr (0, [.ref a0, .ref a1, .ref a2, .ref a3, .int 0, .ref a5, .ref a6, .null, .int 0, .null, .null])), (a0, .inl (k0, 6, .inl (fun _ => nI 0))), (a1, .inl (k1, 144, .inl (fun _ => nI 0))), (a2, .inl (k2, 72, .inl (fun _ => nI 0))), (a3, .inl (k3, 12, .inl (fun _ => nI 0))), (a5, .inl (k5, 12, .inl (fun _ => nI 0))), (a6, .inl (k6, 14, .inl (fun _ => nI 0)))] H := hP
  have hD : va_D A [(h0, .inr (0, [.ref a0, .ref a1, .ref a2, .ref a3, .int 0, .ref a5, .ref a6, .null, .int 0, .null, .null])), (a0, .inl (k0, 6, .inl (fun _ => nI 0))), (a1, .inl (k1, 144, .inl (fun _ => nI 0))), (a2, .inl (k2, 72, .inl (fun _ => nI 0))), (a3, .inl (k3, 12, .inl (fun _ => nI 0))), (a5, .inl (k5, 12, .inl (fun _ => nI 0))), (a6, .inl (k6, 14, .inl (fun _ => nI 0)))] := hD
  refine lv_aload_n hx hb dX0_init_53 rfl (lv_at hl 0 rfl) ?_
  refine lv_bipush (v := 14) hx hb dX0_init_54 (by decide) ?_
  refine va_newa (atype := .byte) (ty := .byte) (n := 14) (N' := 14) (a0 := (14, .inl (fun _ => nI 0))) hx hb (hts _ q63) rfl hK hP hD hS hA (fun _ => rfl) (by decide) (by decide) (by decide) (Nat.le_of_ble_eq_true rfl) (Nat.le_of_ble_eq_true rfl) dX0_init_56 (fun a7 k7 H hK hP hD hS => ?_)
  have hP : va_P D vwCl [(h0, .inr (0, [.ref a0, .ref a1, .ref a2, .ref a3, .int 0, .ref a5, .ref a6, .null, .int 0, .null, .null])), (a0, .inl (k0, 6, .inl (fun _ => nI 0))), (a1, .inl (k1, 144, .inl (fun _ => nI 0))), (a2, .inl (k2, 72, .inl (fun _ => nI 0))), (a3, .inl (k3, 12, .inl (fun _ => nI 0))), (a5, .inl (k5, 12, .inl (fun _ => nI 0))), (a6, .inl (k6, 14, .inl (fun _ => nI 0))), (a7, .inl (k7, 14, .inl (fun _ => nI 0)))] H := hP
  have hD : va_D A [(h0, .inr (0, [.ref a0, .ref a1, .ref a2, .ref a3, .int 0, .ref a5, .ref a6, .null, .int 0, .null, .null])), (a0, .inl (k0, 6, .inl (fun _ => nI 0))), (a1, .inl (k1, 144, .inl (fun _ => nI 0))), (a2, .inl (k2, 72, .inl (fun _ => nI 0))), (a3, .inl (k3, 12, .inl (fun _ => nI 0))), (a5, .inl (k5, 12, .inl (fun _ => nI 0))), (a6, .inl (k6, 14, .inl (fun _ => nI 0))), (a7, .inl (k7, 14, .inl (fun _ => nI 0)))] := hD
  have hK : va_K D vwCl [(k0, .byte), (k1, .byte), (k2, .int), (k3, .byte), (k5, .byte), (k6, .byte), (k7, .byte)] s := hK
  refine W.widen (k := 7) (n := 274) (Nat.le_of_ble_eq_true rfl) (Nat.le_of_ble_eq_true rfl) ?_
  refine va_putF (D := D) (ci := 0) (v := .ref a7) (ty := .array .byte) (C := RX0) (T := TX0) (N := 11) hx hb hts in_X0 tyX0 tyX0_ok nmX0 hown hK hP hD hS 0 rfl rfl 7 (by decide) (hts _ q36) (fun _ h9 => h9) rfl hin rfl (by decide +kernel) rfl rfl (Nat.le_of_ble_eq_true rfl) dX0_init_58 (fun H locs hP hD hS => ?_)
  have hP : va_P D vwCl [(h0, .inr (0, [.ref a0, .ref a1, .ref a2, .ref a3, .int 0, .ref a5, .ref a6, .ref a7, .int 0, .null, .null])), (a0, .inl (k0, 6, .inl (fun _ => nI 0))), (a1, .inl (k1, 144, .inl (fun _ => nI 0))), (a2, .inl (k2, 72, .inl (fun _ => nI 0))), (a3, .inl (k3, 12, .inl (fun _ => nI 0))), (a5, .inl (k5, 12, .inl (fun _ => nI 0))), (a6, .inl (k6, 14, .inl (fun _ => nI 0))), (a7, .inl (k7, 14, .inl (fun _ => nI 0)))] H := hP
  have hD : va_D A [(h0, .inr (0, [.ref a0, .ref a1, .ref a2, .ref a3, .int 0, .ref a5, .ref a6, .ref a7, .int 0, .null, .null])), (a0, .inl (k0, 6, .inl (fun _ => nI 0))), (a1, .inl (k1, 144, .inl (fun _ => nI 0))), (a2, .inl (k2, 72, .inl (fun _ => nI 0))), (a3, .inl (k3, 12, .inl (fun _ => nI 0))), (a5, .inl (k5, 12, .inl (fun _ => nI 0))), (a6, .inl (k6, 14, .inl (fun _ => nI 0))), (a7, .inl (k7, 14, .inl (fun _ => nI 0)))] := hD
  refine lv_aload_n hx hb dX0_init_61 rfl (lv_at hl 0 rfl) ?_
  refine lv_sipush (v := 288) hx hb dX0_init_62 (by decide) ?_
  refine va_newa (atype := .int) (ty := .int) (n := 288) (N' := 288) (a0 := (288, .inl (fun _ => nI 0))) hx hb (hts _ q64) rfl hK hP hD hS hA (fun _ => rfl) (by decide) (by decide) (by decide) (Nat.le_of_ble_eq_true rfl) (Nat.le_of_ble_eq_true rfl) dX0_init_65 (fun a9 k9 H hK hP hD hS => ?_)
  have hP : va_P D vwCl [(h0, .inr (0, [.ref a0, .ref a1, .ref a2, .ref a3, .int 0, .ref a5, .ref a6, .ref a7, .int 0, .null, .null])), (a0, .inl (k0, 6, .inl (fun _ => nI 0))), (a1, .inl (k1, 144, .inl (fun _ => nI 0))), (a2, .inl (k2, 72, .inl (fun _ => nI 0))), (a3, .inl (k3, 12, .inl (fun _ => nI 0))), (a5, .inl (k5, 12, .inl (fun _ => nI 0))), (a6, .inl (k6, 14, .inl (fun _ => nI 0))), (a7, .inl (k7, 14, .inl (fun _ => nI 0))), (a9, .inl (k9, 288, .inl (fun _ => nI 0)))] H := hP
  have hD : va_D A [(h0, .inr (0, [.ref a0, .ref a1, .ref a2, .ref a3, .int 0, .ref a5, .ref a6, .ref a7, .int 0, .null, .null])), (a0, .inl (k0, 6, .inl (fun _ => nI 0))), (a1, .inl (k1, 144, .inl (fun _ => nI 0))), (a2, .inl (k2, 72, .inl (fun _ => nI 0))), (a3, .inl (k3, 12, .inl (fun _ => nI 0))), (a5, .inl (k5, 12, .inl (fun _ => nI 0))), (a6, .inl (k6, 14, .inl (fun _ => nI 0))), (a7, .inl (k7, 14, .inl (fun _ => nI 0))), (a9, .inl (k9, 288, .inl (fun _ => nI 0)))] := hD
  have hK : va_K D vwCl [(k0, .byte), (k1, .byte), (k2, .int), (k3, .byte), (k5, .byte), (k6, .byte), (k7, .byte), (k9, .int)] s := hK
  refine W.widen (k := 8) (n := 562) (Nat.le_of_ble_eq_true rfl) (Nat.le_of_ble_eq_true rfl) ?_
  refine va_putF (D := D) (ci := 0) (v := .ref a9) (ty := .array .int) (C := RX0) (T := TX0) (N := 11) hx hb hts in_X0 tyX0 tyX0_ok nmX0 hown hK hP hD hS 0 rfl rfl 9 (by decide) (hts _ q38) (fun _ h9 => h9) rfl hin rfl (by decide +kernel) rfl rfl (Nat.le_of_ble_eq_true rfl) dX0_init_67 (fun H locs hP hD hS => ?_)
  have hP : va_P D vwCl [(h0, .inr (0, [.ref a0, .ref a1, .ref a2, .ref a3, .int 0, .ref a5, .ref a6, .ref a7, .int 0, .ref a9, .null])), (a0, .inl (k0, 6, .inl (fun _ => nI 0))), (a1, .inl (k1, 144, .inl (fun _ => nI 0))), (a2, .inl (k2, 72, .inl (fun _ => nI 0))), (a3, .inl (k3, 12, .inl (fun _ => nI 0))), (a5, .inl (k5, 12, .inl (fun _ => nI 0))), (a6, .inl (k6, 14, .inl (fun _ => nI 0))), (a7, .inl (k7, 14, .inl (fun _ => nI 0))), (a9, .inl (k9, 288, .inl (fun _ => nI 0)))] H := hP
  have hD : va_D A [(h0, .inr (0, [.ref a0, .ref a1, .ref a2, .ref a3, .int 0, .ref a5, .ref a6, .ref a7, .int 0, .ref a9, .null])), (a0, .inl (k0, 6, .inl (fun _ => nI 0))), (a1, .inl (k1, 144, .inl (fun _ => nI 0))), (a2, .inl (k2, 72, .inl (fun _ => nI 0))), (a3, .inl (k3, 12, .inl (fun _ => nI 0))), (a5, .inl (k5, 12, .inl (fun _ => nI 0))), (a6, .inl (k6, 14, .inl (fun _ => nI 0))), (a7, .inl (k7, 14, .inl (fun _ => nI 0))), (a9, .inl (k9, 288, .inl (fun _ => nI 0)))] := hD
  refine lv_aload_n hx hb dX0_init_70 rfl (lv_at hl 0 rfl) ?_
  refine lv_bipush (v := 12) hx hb dX0_init_71 (by decide) ?_
  refine va_newa (atype := .boolean) (ty := .boolean) (n := 12) (N' := 12) (a0 := (12, .inl (fun _ => nI 0))) hx hb (hts _ q65) rfl hK hP hD hS hA (fun _ => rfl) (by decide) (by decide) (by decide) (Nat.le_of_ble_eq_true rfl) (Nat.le_of_ble_eq_true rfl) dX0_init_73 (fun a10 k10 H hK hP hD hS => ?_)
  have hP : va_P D vwCl [(h0, .inr (0, [.ref a0, .ref a1, .ref a2, .ref a3, .int 0, .ref a5, .ref a6, .ref a7, .int 0, .ref a9, .null])), (a0, .inl (k0, 6, .inl (fun _ => nI 0))), (a1, .inl (k1, 144, .inl (fun _ => nI 0))), (a2, .inl (k2, 72, .inl (fun _ => nI 0))), (a3, .inl (k3, 12, .inl (fun _ => nI 0))), (a5, .inl (k5, 12, .inl (fun _ => nI 0))), (a6, .inl (k6, 14, .inl (fun _ => nI 0))), (a7, .inl (k7, 14, .inl (fun _ => nI 0))), (a9, .inl (k9, 288, .inl (fun _ => nI 0))), (a10, .inl (k10, 12, .inl (fun _ => nI 0)))] H := hP
  have hD : va_D A [(h0, .inr (0, [.ref a0, .ref a1, .ref a2, .ref a3, .int 0, .ref a5, .ref a6, .ref a7, .int 0, .ref a9, .null])), (a0, .inl (k0, 6, .inl (fun _ => nI 0))), (a1, .inl (k1, 144, .inl (fun _ => nI 0))), (a2, .inl (k2, 72, .inl (fun _ => nI 0))), (a3, .inl (k3, 12, .inl (fun _ => nI 0))), (a5, .inl (k5, 12, .inl (fun _ => nI 0))), (a6, .inl (k6, 14, .inl (fun _ => nI 0))), (a7, .inl (k7, 14, .inl (fun _ => nI 0))), (a9, .inl (k9, 288, .inl (fun _ => nI 0))), (a10, .inl (k10, 12, .inl (fun _ => nI 0)))] := hD
  have hK : va_K D vwCl [(k0, .byte), (k1, .byte), (k2, .int), (k3, .byte), (k5, .byte), (k6, .byte), (k7, .byte), (k9, .int), (k10, .boolean)] s := hK
  refine W.widen (k := 9) (n := 574) (Nat.le_of_ble_eq_true rfl) (Nat.le_of_ble_eq_true rfl) ?_
  refine va_putF (D := D) (ci := 0) (v := .ref a10) (ty := .array .boolean) (C := RX0) (T := TX0) (N := 11) hx hb hts in_X0 tyX0 tyX0_ok nmX0 hown hK hP hD hS 0 rfl rfl 10 (by decide) (hts _ q39) (fun _ h9 => h9) rfl hin rfl (by decide +kernel) rfl rfl (Nat.le_of_ble_eq_true rfl) dX0_init_75 (fun H locs hP hD hS => ?_)
  have hP : va_P D vwCl [(h0, .inr (0, [.ref a0, .ref a1, .ref a2, .ref a3, .int 0, .ref a5, .ref a6, .ref a7, .int 0, .ref a9, .ref a10])), (a0, .inl (k0, 6, .inl (fun _ => nI 0))), (a1, .inl (k1, 144, .inl (fun _ => nI 0))), (a2, .inl (k2, 72, .inl (fun _ => nI 0))), (a3, .inl (k3, 12, .inl (fun _ => nI 0))), (a5, .inl (k5, 12, .inl (fun _ => nI 0))), (a6, .inl (k6, 14, .inl (fun _ => nI 0))), (a7, .inl (k7, 14, .inl (fun _ => nI 0))), (a9, .inl (k9, 288, .inl (fun _ => nI 0))), (a10, .inl (k10, 12, .inl (fun _ => nI 0)))] H := hP
  have hD : va_D A [(h0, .inr (0, [.ref a0, .ref a1, .ref a2, .ref a3, .int 0, .ref a5, .ref a6, .ref a7, .int 0, .ref a9, .ref a10])), (a0, .inl (k0, 6, .inl (fun _ => nI 0))), (a1, .inl (k1, 144, .inl (fun _ => nI 0))), (a2, .inl (k2, 72, .inl (fun _ => nI 0))), (a3, .inl (k3, 12, .inl (fun _ => nI 0))), (a5, .inl (k5, 12, .inl (fun _ => nI 0))), (a6, .inl (k6, 14, .inl (fun _ => nI 0))), (a7, .inl (k7, 14, .inl (fun _ => nI 0))), (a9, .inl (k9, 288, .inl (fun _ => nI 0))), (a10, .inl (k10, 12, .inl (fun _ => nI 0)))] := hD
  exact W.vret hx hb hr (fun t ht hW => ⟨⟨((fun j => match j with | 0 => h0 | 1 => a0 | 2 => a1 | 3 => a2 | 4 => a3 | 6 => a5 | 7 => a6 | 8 => a7 | 10 => a9 | 11 => a10 | _ => h0), (fun j => match j with | 0 => k0 | 1 => k1 | 2 => k2 | 3 => k3 | 5 => k5 | 6 => k6 | 7 => k7 | 9 => k9 | 10 => k10 | _ => k0)), rfl, rfl, by rw [ht]; exact hP, va_K.moved hW.alike hK, hD⟩, hS.F ht⟩) hS.2.2 dX0_init_78
abbrev mN : List Value := [.null, .null, .int 0, .null, .null, .null, .null]
set_option maxHeartbeats 4000000 in
theorem iM_init (l : Launch) (D : va_G) (h0 sz : Nat) : Met l yX1_init (ws_ yX1_init cX1_init 1 none) ({ frames := 1, cells := 6, slots := 487, locals := 12 } : Room) (va_Pc [.ref h0] (fun U => U.heap.size = sz ∧ va_P D vwCl [(h0, .inr (1, mN))] U.heap ∧ va_K D vwCl [] U ∧ va_D (fun _ => True) [(h0, .inr (1, mN))])) (va_Qv (fun hd : (Nat → Nat) × (Nat → ClassId) => hd.1 0 = h0) (fun hd t => va_P D vwCl (mL hd.1 hd.2 (fun _ _ => 0)) t.heap ∧ va_K D vwCl (mT hd.2) t ∧ va_D (va_A [(h0, .inr (1, mN))] sz) (mL hd.1 hd.2 (fun _ _ => 0))) (va_A [(h0, .inr (1, mN))] sz)) 6 487 (va_A [(h0, .inr (1, mN))] sz) := by
  refine Met.ofW (cc := cX1_init) (maxL := 1) (ret := none) (by decide) rfl ?_
  intro p e s m args below meth c s₁ B hml hv
  obtain ⟨rfl, hsz, hP, hK, hD0⟩ := hv
  have hx := B.exec
  have hb := B.bytes
  have hr := B.returns
  have hts := atoms_spec (ws := ws_ yX1_init cX1_init 1 none) B.pre
  have hts : ∀ w ∈ lw_all, w.before _ s = true := fun w h => hts w (List.mem_cons_of_mem _ h)
  have hown : s.vm.findClass RX1 = some m.cls := findClass_of_methodNamed B.named
  have hlocks := B.notSynchronized
  have hin : meth.name = "<init>" := (name_of_methodNamed B.named B.method).1
  subst hsz
  have hD := hD0.self (sz := s.heap.size)
  generalize hAe : va_A [(h0, .inr (1, mN))] s.heap.size = A at hD ⊢
  have hA : ∀ q : Nat, s.heap.size ≤ q → A q := fun q h => by rw [← hAe]; exact Or.inr h
  have hS : va_S A s.heap s.heap [] := va_S.rf
  have hl := lv_entry ([.ref h0]) (n := 1) (Nat.le_of_ble_eq_true rfl)
  rw [lg_entry_eq]
  generalize (lg_sl ([.ref h0]) ++ List.replicate (1 - (lg_sl ([.ref h0])).length) Slot.unset).toArray = ls at hl ⊢
  have hl : lv_has ls 1 [(0, .ref h0)] := hl
  refine lv_aload_n hx hb dX1_init_0 rfl (lv_at hl 0 rfl) ?_
  refine W.objInit hx hb hown (hts _ q193) (hts _ q27) (hts _ q28) rfl (by rw [hml]; exact hl.1) rfl dX1_init_1 (Nat.le_of_ble_eq_true rfl) (Nat.le_of_ble_eq_true rfl) ?_
  refine W.eq (g2 := F0 m 4 ls []) rfl ?_
  refine lv_aload_n hx hb dX1_init_4 rfl (lv_at hl 0 rfl) ?_
  refine lv_bipush (v := 6) hx hb dX1_init_5 (by decide) ?_
  refine va_newa (atype := .int) (ty := .int) (n := 6) (N' := 6) (a0 := (6, .inl (fun _ => nI 0))) hx hb (hts _ q64) rfl hK hP hD hS hA (fun _ => rfl) (by decide) (by decide) (by decide) (Nat.le_of_ble_eq_true rfl) (Nat.le_of_ble_eq_true rfl) dX1_init_7 (fun a0 k0 H hK hP hD hS => ?_)
  have hP : va_P D vwCl [(h0, .inr (1, [.null, .null, .int 0, .null, .null, .null, .null])), (a0, .inl (k0, 6, .inl (fun _ => nI 0)))] H := hP
  have hD : va_D A [(h0, .inr (1, [.null, .null, .int 0, .null, .null, .null, .null])), (a0, .inl (k0, 6, .inl (fun _ => nI 0)))] := hD
  have hK : va_K D vwCl [(k0, .int)] s := hK
  refine W.widen (k := 1) (n := 6) (Nat.le_of_ble_eq_true rfl) (Nat.le_of_ble_eq_true rfl) ?_
  refine va_put (D := D) (ci := 1) (v := .ref a0) (ty := .array .int) (C := RX1) (T := TX1) (N := 7) hx hb hts in_X1 tyX1 tyX1_ok nmX1 hown hK hP hD hS 0 rfl rfl 0 (by decide) (hts _ q194) (fun _ h9 => h9) rfl (by decide +kernel) rfl rfl (Nat.le_of_ble_eq_true rfl) dX1_init_9 (fun H locs hP hD hS => ?_)
  have hP : va_P D vwCl [(h0, .inr (1, [.ref a0, .null, .int 0, .null, .null, .null, .null])), (a0, .inl (k0, 6, .inl (fun _ => nI 0)))] H := hP
  have hD : va_D A [(h0, .inr (1, [.ref a0, .null, .int 0, .null, .null, .null, .null])), (a0, .inl (k0, 6, .inl (fun _ => nI 0)))] := hD
  refine lv_aload_n hx hb dX1_init_12 rfl (lv_at hl 0 rfl) ?_
  refine lv_sipush (v := 144) hx hb dX1_init_13 (by decide) ?_
  refine va_newa (atype := .int) (ty := .int) (n := 144) (N' := 144) (a0 := (144, .inl (fun _ => nI 0))) hx hb (hts _ q64) rfl hK hP hD hS hA (fun _ => rfl) (by decide) (by decide) (by decide) (Nat.le_of_ble_eq_true rfl) (Nat.le_of_ble_eq_true rfl) dX1_init_16 (fun a1 k1 H hK hP hD hS => ?_)
  have hP : va_P D vwCl [(h0, .inr (1, [.ref a0, .null, .int 0, .null, .null, .null, .null])), (a0, .inl (k0, 6, .inl (fun _ => nI 0))), (a1, .inl (k1, 144, .inl (fun _ => nI 0)))] H := hP
  have hD : va_D A [(h0, .inr (1, [.ref a0, .null, .int 0, .null, .null, .null, .null])), (a0, .inl (k0, 6, .inl (fun _ => nI 0))), (a1, .inl (k1, 144, .inl (fun _ => nI 0)))] := hD
  have hK : va_K D vwCl [(k0, .int), (k1, .int)] s := hK
  refine W.widen (k := 2) (n := 150) (Nat.le_of_ble_eq_true rfl) (Nat.le_of_ble_eq_true rfl) ?_
  refine va_put (D := D) (ci := 1) (v := .ref a1) (ty := .array .int) (C := RX1) (T := TX1) (N := 7) hx hb hts in_X1 tyX1 tyX1_ok nmX1 hown hK hP hD hS 0 rfl rfl 1 (by decide) (hts _ q195) (fun _ h9 => h9) rfl (by decide +kernel) rfl rfl (Nat.le_of_ble_eq_true rfl) dX1_init_18 (fun H locs hP hD hS => ?_)
  have hP : va_P D vwCl [(h0, .inr (1, [.ref a0, .ref a1, .int 0, .null, .null, .null, .null])), (a0, .inl (k0, 6, .inl (fun _ => nI 0))), (a1, .inl (k1, 144, .inl (fun _ => nI 0)))] H := hP
  have hD : va_D A [(h0, .inr (1, [.ref a0, .ref a1, .int 0, .null, .null, .null, .null])), (a0, .inl (k0, 6, .inl (fun _ => nI 0))), (a1, .inl (k1, 144, .inl (fun _ => nI 0)))] := hD
  refine lv_aload_n hx hb dX1_init_21 rfl (lv_at hl 0 rfl) ?_
  refine lv_bipush (v := 12) hx hb dX1_init_22 (by decide) ?_
  refine va_newa (atype := .int) (ty := .int) (n := 12) (N' := 12) (a0 := (12, .inl (fun _ => nI 0))) hx hb (hts _ q64) rfl hK hP hD hS hA (fun _ => rfl) (by decide) (by decide) (by decide) (Nat.le_of_ble_eq_true rfl) (Nat.le_of_ble_eq_true rfl) dX1_init_24 (fun a3 k3 H hK hP hD hS => ?_)
  have hP : va_P D vwCl [(h0, .inr (1, [.ref a0, .ref a1, .int 0, .null, .null, .null, .null])), (a0, .inl (k0, 6, .inl (fun _ => nI 0))), (a1, .inl (k1, 144, .inl (fun _ => nI 0))), (a3, .inl (k3, 12, .inl (fun _ => nI 0)))] H := hP
  have hD : va_D A [(h0, .inr (1, [.ref a0, .ref a1, .int 0, .null, .null, .null, .null])), (a0, .inl (k0, 6, .inl (fun _ => nI 0))), (a1, .inl (k1, 144, .inl (fun _ => nI 0))), (a3, .inl (k3, 12, .inl (fun _ => nI 0)))] := hD
  have hK : va_K D vwCl [(k0, .int), (k1, .int), (k3, .int)] s := hK
  refine W.widen (k := 3) (n := 162) (Nat.le_of_ble_eq_true rfl) (Nat.le_of_ble_eq_true rfl) ?_
  refine va_put (D := D) (ci := 1) (v := .ref a3) (ty := .array .int) (C := RX1) (T := TX1) (N := 7) hx hb hts in_X1 tyX1 tyX1_ok nmX1 hown hK hP hD hS 0 rfl rfl 3 (by decide) (hts _ q197) (fun _ h9 => h9) rfl (by decide +kernel) rfl rfl (Nat.le_of_ble_eq_true rfl) dX1_init_26 (fun H locs hP hD hS => ?_)
  have hP : va_P D vwCl [(h0, .inr (1, [.ref a0, .ref a1, .int 0, .ref a3, .null, .null, .null])), (a0, .inl (k0, 6, .inl (fun _ => nI 0))), (a1, .inl (k1, 144, .inl (fun _ => nI 0))), (a3, .inl (k3, 12, .inl (fun _ => nI 0)))] H := hP
  have hD : va_D A [(h0, .inr (1, [.ref a0, .ref a1, .int 0, .ref a3, .null, .null, .null])), (a0, .inl (k0, 6, .inl (fun _ => nI 0))), (a1, .inl (k1, 144, .inl (fun _ => nI 0))), (a3, .inl (k3, 12, .inl (fun _ => nI 0)))] := hD
  refine lv_aload_n hx hb dX1_init_29 rfl (lv_at hl 0 rfl) ?_
  refine lv_sipush (v := 288) hx hb dX1_init_30 (by decide) ?_
  refine va_newa (atype := .int) (ty := .int) (n := 288) (N' := 288) (a0 := (288, .inl (fun _ => nI 0))) hx hb (hts _ q64) rfl hK hP hD hS hA (fun _ => rfl) (by decide) (by decide) (by decide) (Nat.le_of_ble_eq_true rfl) (Nat.le_of_ble_eq_true rfl) dX1_init_33 (fun a4 k4 H hK hP hD hS => ?_)
  have hP : va_P D vwCl [(h0, .inr (1, [.ref a0, .ref a1, .int 0, .ref a3, .null, .null, .null])), (a0, .inl (k0, 6, .inl (fun _ => nI 0))), (a1, .inl (k1, 144, .inl (fun _ => nI 0))), (a3, .inl (k3, 12, .inl (fun _ => nI 0))), (a4, .inl (k4, 288, .inl (fun _ => nI 0)))] H := hP
  have hD : va_D A [(h0, .inr (1, [.ref a0, .ref a1, .int 0, .ref a3, .null, .null, .null])), (a0, .inl (k0, 6, .inl (fun _ => nI 0))), (a1, .inl (k1, 144, .inl (fun _ => nI 0))), (a3, .inl (k3, 12, .inl (fun _ => nI 0))), (a4, .inl (k4, 288, .inl (fun _ => nI 0)))] := hD
  have hK : va_K D vwCl [(k0, .int), (k1, .int), (k3, .int), (k4, .int)] s := hK
  refine W.widen (k := 4) (n := 450) (Nat.le_of_ble_eq_true rfl) (Nat.le_of_ble_eq_true rfl) ?_
  refine va_put (D := D) (ci := 1) (v := .ref a4) (ty := .array .int) (C := RX1) (T := TX1) (N := 7) hx hb hts in_X1 tyX1 tyX1_ok nmX1 hown hK hP hD hS 0 rfl rfl 4 (by decide) (hts _ q198) (fun _ h9 => h9) rfl (by decide +kernel) rfl rfl (Nat.le_of_ble_eq_true rfl) dX1_init_35 (fun H locs hP hD hS => ?_)
  have hP : va_P D vwCl [(h0, .inr (1, [.ref a0, .ref a1, .int 0, .ref a3, .ref a4, .null, .null])), (a0, .inl (k0, 6, .inl (fun _ => nI 0))), (a1, .inl (k1, 144, .inl (fun _ => nI 0))), (a3, .inl (k3, 12, .inl (fun _ => nI 0))), (a4, .inl (k4, 288, .inl (fun _ => nI 0)))] H := hP
  have hD : va_D A [(h0, .inr (1, [.ref a0, .ref a1, .int 0, .ref a3, .ref a4, .null, .null])), (a0, .inl (k0, 6, .inl (fun _ => nI 0))), (a1, .inl (k1, 144, .inl (fun _ => nI 0))), (a3, .inl (k3, 12, .inl (fun _ => nI 0))), (a4, .inl (k4, 288, .inl (fun _ => nI 0)))] := hD
  refine lv_aload_n hx hb dX1_init_38 rfl (lv_at hl 0 rfl) ?_
  refine lv_bipush (v := 13) hx hb dX1_init_39 (by decide) ?_
  refine va_newa (atype := .int) (ty := .int) (n := 13) (N' := 13) (a0 := (13, .inl (fun _ => nI 0))) hx hb (hts _ q64) rfl hK hP hD hS hA (fun _ => rfl) (by decide) (by decide) (by decide) (Nat.le_of_ble_eq_true rfl) (Nat.le_of_ble_eq_true rfl) dX1_init_41 (fun a5 k5 H hK hP hD hS => ?_)
  have hP : va_P D vwCl [(h0, .inr (1, [.ref a0, .ref a1, .int 0, .ref a3, .ref a4, .null, .null])), (a0, .inl (k0, 6, .inl (fun _ => nI 0))), (a1, .inl (k1, 144, .inl (fun _ => nI 0))), (a3, .inl (k3, 12, .inl (fun _ => nI 0))), (a4, .inl (k4, 288, .inl (fun _ => nI 0))), (a5, .inl (k5, 13, .inl (fun _ => nI 0)))] H := hP
  have hD : va_D A [(h0, .inr (1, [.ref a0, .ref a1, .int 0, .ref a3, .ref a4, .null, .null])), (a0, .inl (k0, 6, .inl (fun _ => nI 0))), (a1, .inl (k1, 144, .inl (fun _ => nI 0))), (a3, .inl (k3, 12, .inl (fun _ => nI 0))), (a4, .inl (k4, 288, .inl (fun _ => nI 0))), (a5, .inl (k5, 13, .inl (fun _ => nI 0)))] := hD
  have hK : va_K D vwCl [(k0, .int), (k1, .int), (k3, .int), (k4, .int), (k5, .int)] s := hK
  refine W.widen (k := 5) (n := 463) (Nat.le_of_ble_eq_true rfl) (Nat.le_of_ble_eq_true rfl) ?_
  refine va_put (D := D) (ci := 1) (v := .ref a5) (ty := .array .int) (C := RX1) (T := TX1) (N := 7) hx hb hts in_X1 tyX1 tyX1_ok nmX1 hown hK hP hD hS 0 rfl rfl 5 (by decide) (hts _ q199) (fun _ h9 => h9) rfl (by decide +kernel) rfl rfl (Nat.le_of_ble_eq_true rfl) dX1_init_43 (fun H locs hP hD hS => ?_)
  have hP : va_P D vwCl [(h0, .inr (1, [.ref a0, .ref a1, .int 0, .ref a3, .ref a4, .ref a5, .null])), (a0, .inl (k0, 6, .inl (fun _ => nI 0))), (a1, .inl (k1, 144, .inl (fun _ => nI 0))), (a3, .inl (k3, 12, .inl (fun _ => nI 0))), (a4, .inl (k4, 288, .inl (fun _ => nI 0))), (a5, .inl (k5, 13, .inl (fun _ => nI 0)))] H := hP
  have hD : va_D A [(h0, .inr (1, [.ref a0, .ref a1, .int 0, .ref a3, .ref a4, .ref a5, .null])), (a0, .inl (k0, 6, .inl (fun _ => nI 0))), (a1, .inl (k1, 144, .inl (fun _ => nI 0))), (a3, .inl (k3, 12, .inl (fun _ => nI 0))), (a4, .inl (k4, 288, .inl (fun _ => nI 0))), (a5, .inl (k5, 13, .inl (fun _ => nI 0)))] := hD
  refine lv_aload_n hx hb dX1_init_46 rfl (lv_at hl 0 rfl) ?_
  refine lv_bipush (v := 24) hx hb dX1_init_47 (by decide) ?_
  refine va_newa (atype := .int) (ty := .int) (n := 24) (N' := 24) (a0 := (24, .inl (fun _ => nI 0))) hx hb (hts _ q64) rfl hK hP hD hS hA (fun _ => rfl) (by decide) (by decide) (by decide) (Nat.le_of_ble_eq_true rfl) (Nat.le_of_ble_eq_true rfl) dX1_init_49 (fun a6 k6 H hK hP hD hS => ?_)
  have hP : va_P D vwCl [(h0, .inr (1, [.ref a0, .ref a1, .int 0, .ref a3, .ref a4, .ref a5, .null])), (a0, .inl (k0, 6, .inl (fun _ => nI 0))), (a1, .inl (k1, 144, .inl (fun _ => nI 0))), (a3, .inl (k3, 12, .inl (fun _ => nI 0))), (a4, .inl (k4, 288, .inl (fun _ => nI 0))), (a5, .inl (k5, 13, .inl (fun _ => nI 0))), (a6, .inl (k6, 24, .inl (fun _ => nI 0)))] H := hP
  have hD : va_D A [(h0, .inr (1, [.ref a0, .ref a1, .int 0, .ref a3, .ref a4, .ref a5, .null])), (a0, .inl (k0, 6, .inl (fun _ => nI 0))), (a1, .inl (k1, 144, .inl (fun _ => nI 0))), (a3, .inl (k3, 12, .inl (fun _ => nI 0))), (a4, .inl (k4, 288, .inl (fun _ => nI 0))), (a5, .inl (k5, 13, .inl (fun _ => nI 0))), (a6, .inl (k6, 24, .inl (fun _ => nI 0)))] := hD
  have hK : va_K D vwCl [(k0, .int), (k1, .int), (k3, .int), (k4, .int), (k5, .int), (k6, .int)] s := hK
  refine W.widen (k := 6) (n := 487) (Nat.le_of_ble_eq_true rfl) (Nat.le_of_ble_eq_true rfl) ?_
  refine va_put (D := D) (ci := 1) (v := .ref a6) (ty := .array .int) (C := RX1) (T := TX1) (N := 7) hx hb hts in_X1 tyX1 tyX1_ok nmX1 hown hK hP hD hS 0 rfl rfl 6 (by decide) (hts _ q200) (fun _ h9 => h9) rfl (by decide +kernel) rfl rfl (Nat.le_of_ble_eq_true rfl) dX1_init_51 (fun H locs hP hD hS => ?_)
  have hP : va_P D vwCl [(h0, .inr (1, [.ref a0, .ref a1, .int 0, .ref a3, .ref a4, .ref a5, .ref a6])), (a0, .inl (k0, 6, .inl (fun _ => nI 0))), (a1, .inl (k1, 144, .inl (fun _ => nI 0))), (a3, .inl (k3, 12, .inl (fun _ => nI 0))), (a4, .inl (k4, 288, .inl (fun _ => nI 0))), (a5, .inl (k5, 13, .inl (fun _ => nI 0))), (a6, .inl (k6, 24, .inl (fun _ => nI 0)))] H := hP
  have hD : va_D A [(h0, .inr (1, [.ref a0, .ref a1, .int 0, .ref a3, .ref a4, .ref a5, .ref a6])), (a0, .inl (k0, 6, .inl (fun _ => nI 0))), (a1, .inl (k1, 144, .inl (fun _ => nI 0))), (a3, .inl (k3, 12, .inl (fun _ => nI 0))), (a4, .inl (k4, 288, .inl (fun _ => nI 0))), (a5, .inl (k5, 13, .inl (fun _ => nI 0))), (a6, .inl (k6, 24, .inl (fun _ => nI 0)))] := hD
  exact W.vret hx hb hr (fun t ht hW => ⟨⟨((fun j => match j with | 0 => h0 | 1 => a0 | 2 => a1 | 4 => a3 | 5 => a4 | 6 => a5 | 7 => a6 | _ => h0), (fun j => match j with | 0 => k0 | 1 => k1 | 3 => k3 | 4 => k4 | 5 => k5 | 6 => k6 | _ => k0)), rfl, rfl, by rw [ht]; exact hP, va_K.moved hW.alike hK, hD⟩, hS.F ht⟩) hS.2.2 dX1_init_54
end
section
/-! the law's own entry -/
set_option maxRecDepth 100000
abbrev cL_law : ByteArray := code
theorem dL_law_0 : decode cL_law 0 = .ok (.new 7, 3) := by decide +kernel
theorem dL_law_3 : decode cL_law 3 = .ok (.dup, 1) := by decide +kernel
theorem dL_law_4 : decode cL_law 4 = .ok (.invokespecial 9, 3) := by decide +kernel
theorem dL_law_7 : decode cL_law 7 = .ok (.astore_n 1, 1) := by decide +kernel
theorem dL_law_8 : decode cL_law 8 = .ok (.new 10, 3) := by decide +kernel
theorem dL_law_11 : decode cL_law 11 = .ok (.dup, 1) := by decide +kernel
theorem dL_law_12 : decode cL_law 12 = .ok (.invokespecial 12, 3) := by decide +kernel
theorem dL_law_15 : decode cL_law 15 = .ok (.astore_n 2, 1) := by decide +kernel
theorem dL_law_16 : decode cL_law 16 = .ok (.iconst 0, 1) := by decide +kernel
theorem dL_law_17 : decode cL_law 17 = .ok (.istore_n 3, 1) := by decide +kernel
theorem dL_law_18 : decode cL_law 18 = .ok (.iload_n 3, 1) := by decide +kernel
theorem dL_law_19 : decode cL_law 19 = .ok (.aload_n 0, 1) := by decide +kernel
theorem dL_law_20 : decode cL_law 20 = .ok (.arraylength, 1) := by decide +kernel
theorem dL_law_21 : decode cL_law 21 = .ok (.iconst 4, 1) := by decide +kernel
theorem dL_law_22 : decode cL_law 22 = .ok (.isub, 1) := by decide +kernel
theorem dL_law_23 : decode cL_law 23 = .ok (.if_icmp .gt 476, 3) := by decide +kernel
theorem dL_law_26 : decode cL_law 26 = .ok (.aload_n 0, 1) := by decide +kernel
theorem dL_law_27 : decode cL_law 27 = .ok (.iload_n 3, 1) := by decide +kernel
theorem dL_law_28 : decode cL_law 28 = .ok (.iaload, 1) := by decide +kernel
theorem dL_law_29 : decode cL_law 29 = .ok (.bipush 15, 2) := by decide +kernel
theorem dL_law_31 : decode cL_law 31 = .ok (.iand, 1) := by decide +kernel
theorem dL_law_32 : decode cL_law 32 = .ok (.tableswitch 461 0 14 #[76, 109, 152, 175, 198, 221, 234, 247, 270, 283, 316, 359, 402, 425, 448], 76) := by decide +kernel
theorem dL_law_108 : decode cL_law 108 = .ok (.aload_n 1, 1) := by decide +kernel
theorem dL_law_109 : decode cL_law 109 = .ok (.aload_n 0, 1) := by decide +kernel
theorem dL_law_110 : decode cL_law 110 = .ok (.iload_n 3, 1) := by decide +kernel
theorem dL_law_111 : decode cL_law 111 = .ok (.iconst 1, 1) := by decide +kernel
theorem dL_law_112 : decode cL_law 112 = .ok (.iadd, 1) := by decide +kernel
theorem dL_law_113 : decode cL_law 113 = .ok (.iaload, 1) := by decide +kernel
theorem dL_law_114 : decode cL_law 114 = .ok (.aload_n 0, 1) := by decide +kernel
theorem dL_law_115 : decode cL_law 115 = .ok (.iload_n 3, 1) := by decide +kernel
theorem dL_law_116 : decode cL_law 116 = .ok (.iconst 2, 1) := by decide +kernel
theorem dL_law_117 : decode cL_law 117 = .ok (.iadd, 1) := by decide +kernel
theorem dL_law_118 : decode cL_law 118 = .ok (.iaload, 1) := by decide +kernel
theorem dL_law_119 : decode cL_law 119 = .ok (.invokevirtual 13, 3) := by decide +kernel
theorem dL_law_122 : decode cL_law 122 = .ok (.aload_n 2, 1) := by decide +kernel
theorem dL_law_123 : decode cL_law 123 = .ok (.aload_n 0, 1) := by decide +kernel
theorem dL_law_124 : decode cL_law 124 = .ok (.iload_n 3, 1) := by decide +kernel
theorem dL_law_125 : decode cL_law 125 = .ok (.iconst 1, 1) := by decide +kernel
theorem dL_law_126 : decode cL_law 126 = .ok (.iadd, 1) := by decide +kernel
theorem dL_law_127 : decode cL_law 127 = .ok (.iaload, 1) := by decide +kernel
theorem dL_law_128 : decode cL_law 128 = .ok (.aload_n 0, 1) := by decide +kernel
theorem dL_law_129 : decode cL_law 129 = .ok (.iload_n 3, 1) := by decide +kernel
theorem dL_law_130 : decode cL_law 130 = .ok (.iconst 2, 1) := by decide +kernel
theorem dL_law_131 : decode cL_law 131 = .ok (.iadd, 1) := by decide +kernel
theorem dL_law_132 : decode cL_law 132 = .ok (.iaload, 1) := by decide +kernel
theorem dL_law_133 : decode cL_law 133 = .ok (.invokevirtual 17, 3) := by decide +kernel
theorem dL_law_136 : decode cL_law 136 = .ok (.if_icmp .eq 357, 3) := by decide +kernel
theorem dL_law_139 : decode cL_law 139 = .ok (.iconst 0, 1) := by decide +kernel
theorem dL_law_140 : decode cL_law 140 = .ok (.ireturn, 1) := by decide +kernel
theorem dL_law_141 : decode cL_law 141 = .ok (.aload_n 1, 1) := by decide +kernel
theorem dL_law_142 : decode cL_law 142 = .ok (.aload_n 0, 1) := by decide +kernel
theorem dL_law_143 : decode cL_law 143 = .ok (.iload_n 3, 1) := by decide +kernel
theorem dL_law_144 : decode cL_law 144 = .ok (.iconst 1, 1) := by decide +kernel
theorem dL_law_145 : decode cL_law 145 = .ok (.iadd, 1) := by decide +kernel
theorem dL_law_146 : decode cL_law 146 = .ok (.iaload, 1) := by decide +kernel
theorem dL_law_147 : decode cL_law 147 = .ok (.aload_n 0, 1) := by decide +kernel
theorem dL_law_148 : decode cL_law 148 = .ok (.iload_n 3, 1) := by decide +kernel
theorem dL_law_149 : decode cL_law 149 = .ok (.iconst 2, 1) := by decide +kernel
theorem dL_law_150 : decode cL_law 150 = .ok (.iadd, 1) := by decide +kernel
theorem dL_law_151 : decode cL_law 151 = .ok (.iaload, 1) := by decide +kernel
theorem dL_law_152 : decode cL_law 152 = .ok (.aload_n 0, 1) := by decide +kernel
theorem dL_law_153 : decode cL_law 153 = .ok (.iload_n 3, 1) := by decide +kernel
theorem dL_law_154 : decode cL_law 154 = .ok (.iconst 3, 1) := by decide +kernel
theorem dL_law_155 : decode cL_law 155 = .ok (.iadd, 1) := by decide +kernel
theorem dL_law_156 : decode cL_law 156 = .ok (.iaload, 1) := by decide +kernel
theorem dL_law_157 : decode cL_law 157 = .ok (.invokevirtual 18, 3) := by decide +kernel
theorem dL_law_160 : decode cL_law 160 = .ok (.aload_n 2, 1) := by decide +kernel
theorem dL_law_161 : decode cL_law 161 = .ok (.aload_n 0, 1) := by decide +kernel
theorem dL_law_162 : decode cL_law 162 = .ok (.iload_n 3, 1) := by decide +kernel
theorem dL_law_163 : decode cL_law 163 = .ok (.iconst 1, 1) := by decide +kernel
theorem dL_law_164 : decode cL_law 164 = .ok (.iadd, 1) := by decide +kernel
theorem dL_law_165 : decode cL_law 165 = .ok (.iaload, 1) := by decide +kernel
theorem dL_law_166 : decode cL_law 166 = .ok (.aload_n 0, 1) := by decide +kernel
theorem dL_law_167 : decode cL_law 167 = .ok (.iload_n 3, 1) := by decide +kernel
theorem dL_law_168 : decode cL_law 168 = .ok (.iconst 2, 1) := by decide +kernel
theorem dL_law_169 : decode cL_law 169 = .ok (.iadd, 1) := by decide +kernel
theorem dL_law_170 : decode cL_law 170 = .ok (.iaload, 1) := by decide +kernel
theorem dL_law_171 : decode cL_law 171 = .ok (.aload_n 0, 1) := by decide +kernel
theorem dL_law_172 : decode cL_law 172 = .ok (.iload_n 3, 1) := by decide +kernel
theorem dL_law_173 : decode cL_law 173 = .ok (.iconst 3, 1) := by decide +kernel
theorem dL_law_174 : decode cL_law 174 = .ok (.iadd, 1) := by decide +kernel
theorem dL_law_175 : decode cL_law 175 = .ok (.iaload, 1) := by decide +kernel
theorem dL_law_176 : decode cL_law 176 = .ok (.invokevirtual 22, 3) := by decide +kernel
theorem dL_law_179 : decode cL_law 179 = .ok (.if_icmp .eq 314, 3) := by decide +kernel
theorem dL_law_182 : decode cL_law 182 = .ok (.iconst 0, 1) := by decide +kernel
theorem dL_law_183 : decode cL_law 183 = .ok (.ireturn, 1) := by decide +kernel
theorem dL_law_184 : decode cL_law 184 = .ok (.aload_n 1, 1) := by decide +kernel
theorem dL_law_185 : decode cL_law 185 = .ok (.aload_n 0, 1) := by decide +kernel
theorem dL_law_186 : decode cL_law 186 = .ok (.iload_n 3, 1) := by decide +kernel
theorem dL_law_187 : decode cL_law 187 = .ok (.iconst 1, 1) := by decide +kernel
theorem dL_law_188 : decode cL_law 188 = .ok (.iadd, 1) := by decide +kernel
theorem dL_law_189 : decode cL_law 189 = .ok (.iaload, 1) := by decide +kernel
theorem dL_law_190 : decode cL_law 190 = .ok (.invokevirtual 23, 3) := by decide +kernel
theorem dL_law_193 : decode cL_law 193 = .ok (.aload_n 2, 1) := by decide +kernel
theorem dL_law_194 : decode cL_law 194 = .ok (.aload_n 0, 1) := by decide +kernel
theorem dL_law_195 : decode cL_law 195 = .ok (.iload_n 3, 1) := by decide +kernel
theorem dL_law_196 : decode cL_law 196 = .ok (.iconst 1, 1) := by decide +kernel
theorem dL_law_197 : decode cL_law 197 = .ok (.iadd, 1) := by decide +kernel
theorem dL_law_198 : decode cL_law 198 = .ok (.iaload, 1) := by decide +kernel
theorem dL_law_199 : decode cL_law 199 = .ok (.invokevirtual 27, 3) := by decide +kernel
theorem dL_law_202 : decode cL_law 202 = .ok (.if_icmp .eq 291, 3) := by decide +kernel
theorem dL_law_205 : decode cL_law 205 = .ok (.iconst 0, 1) := by decide +kernel
theorem dL_law_206 : decode cL_law 206 = .ok (.ireturn, 1) := by decide +kernel
theorem dL_law_207 : decode cL_law 207 = .ok (.aload_n 1, 1) := by decide +kernel
theorem dL_law_208 : decode cL_law 208 = .ok (.aload_n 0, 1) := by decide +kernel
theorem dL_law_209 : decode cL_law 209 = .ok (.iload_n 3, 1) := by decide +kernel
theorem dL_law_210 : decode cL_law 210 = .ok (.iconst 1, 1) := by decide +kernel
theorem dL_law_211 : decode cL_law 211 = .ok (.iadd, 1) := by decide +kernel
theorem dL_law_212 : decode cL_law 212 = .ok (.iaload, 1) := by decide +kernel
theorem dL_law_213 : decode cL_law 213 = .ok (.invokevirtual 28, 3) := by decide +kernel
theorem dL_law_216 : decode cL_law 216 = .ok (.aload_n 2, 1) := by decide +kernel
theorem dL_law_217 : decode cL_law 217 = .ok (.aload_n 0, 1) := by decide +kernel
theorem dL_law_218 : decode cL_law 218 = .ok (.iload_n 3, 1) := by decide +kernel
theorem dL_law_219 : decode cL_law 219 = .ok (.iconst 1, 1) := by decide +kernel
theorem dL_law_220 : decode cL_law 220 = .ok (.iadd, 1) := by decide +kernel
theorem dL_law_221 : decode cL_law 221 = .ok (.iaload, 1) := by decide +kernel
theorem dL_law_222 : decode cL_law 222 = .ok (.invokevirtual 32, 3) := by decide +kernel
theorem dL_law_225 : decode cL_law 225 = .ok (.if_icmp .eq 268, 3) := by decide +kernel
theorem dL_law_228 : decode cL_law 228 = .ok (.iconst 0, 1) := by decide +kernel
theorem dL_law_229 : decode cL_law 229 = .ok (.ireturn, 1) := by decide +kernel
theorem dL_law_230 : decode cL_law 230 = .ok (.aload_n 1, 1) := by decide +kernel
theorem dL_law_231 : decode cL_law 231 = .ok (.aload_n 0, 1) := by decide +kernel
theorem dL_law_232 : decode cL_law 232 = .ok (.iload_n 3, 1) := by decide +kernel
theorem dL_law_233 : decode cL_law 233 = .ok (.iconst 1, 1) := by decide +kernel
theorem dL_law_234 : decode cL_law 234 = .ok (.iadd, 1) := by decide +kernel
theorem dL_law_235 : decode cL_law 235 = .ok (.iaload, 1) := by decide +kernel
theorem dL_law_236 : decode cL_law 236 = .ok (.invokevirtual 33, 3) := by decide +kernel
theorem dL_law_239 : decode cL_law 239 = .ok (.aload_n 2, 1) := by decide +kernel
theorem dL_law_240 : decode cL_law 240 = .ok (.aload_n 0, 1) := by decide +kernel
theorem dL_law_241 : decode cL_law 241 = .ok (.iload_n 3, 1) := by decide +kernel
theorem dL_law_242 : decode cL_law 242 = .ok (.iconst 1, 1) := by decide +kernel
theorem dL_law_243 : decode cL_law 243 = .ok (.iadd, 1) := by decide +kernel
theorem dL_law_244 : decode cL_law 244 = .ok (.iaload, 1) := by decide +kernel
theorem dL_law_245 : decode cL_law 245 = .ok (.invokevirtual 36, 3) := by decide +kernel
theorem dL_law_248 : decode cL_law 248 = .ok (.if_icmp .eq 245, 3) := by decide +kernel
theorem dL_law_251 : decode cL_law 251 = .ok (.iconst 0, 1) := by decide +kernel
theorem dL_law_252 : decode cL_law 252 = .ok (.ireturn, 1) := by decide +kernel
theorem dL_law_253 : decode cL_law 253 = .ok (.aload_n 1, 1) := by decide +kernel
theorem dL_law_254 : decode cL_law 254 = .ok (.invokevirtual 37, 3) := by decide +kernel
theorem dL_law_257 : decode cL_law 257 = .ok (.aload_n 2, 1) := by decide +kernel
theorem dL_law_258 : decode cL_law 258 = .ok (.invokevirtual 41, 3) := by decide +kernel
theorem dL_law_261 : decode cL_law 261 = .ok (.if_icmp .eq 232, 3) := by decide +kernel
theorem dL_law_264 : decode cL_law 264 = .ok (.iconst 0, 1) := by decide +kernel
theorem dL_law_265 : decode cL_law 265 = .ok (.ireturn, 1) := by decide +kernel
theorem dL_law_266 : decode cL_law 266 = .ok (.aload_n 1, 1) := by decide +kernel
theorem dL_law_267 : decode cL_law 267 = .ok (.invokevirtual 42, 3) := by decide +kernel
theorem dL_law_270 : decode cL_law 270 = .ok (.aload_n 2, 1) := by decide +kernel
theorem dL_law_271 : decode cL_law 271 = .ok (.invokevirtual 46, 3) := by decide +kernel
theorem dL_law_274 : decode cL_law 274 = .ok (.if_icmp .eq 219, 3) := by decide +kernel
theorem dL_law_277 : decode cL_law 277 = .ok (.iconst 0, 1) := by decide +kernel
theorem dL_law_278 : decode cL_law 278 = .ok (.ireturn, 1) := by decide +kernel
theorem dL_law_279 : decode cL_law 279 = .ok (.aload_n 1, 1) := by decide +kernel
theorem dL_law_280 : decode cL_law 280 = .ok (.aload_n 0, 1) := by decide +kernel
theorem dL_law_281 : decode cL_law 281 = .ok (.iload_n 3, 1) := by decide +kernel
theorem dL_law_282 : decode cL_law 282 = .ok (.iconst 1, 1) := by decide +kernel
theorem dL_law_283 : decode cL_law 283 = .ok (.iadd, 1) := by decide +kernel
theorem dL_law_284 : decode cL_law 284 = .ok (.iaload, 1) := by decide +kernel
theorem dL_law_285 : decode cL_law 285 = .ok (.invokevirtual 47, 3) := by decide +kernel
theorem dL_law_288 : decode cL_law 288 = .ok (.aload_n 2, 1) := by decide +kernel
theorem dL_law_289 : decode cL_law 289 = .ok (.aload_n 0, 1) := by decide +kernel
theorem dL_law_290 : decode cL_law 290 = .ok (.iload_n 3, 1) := by decide +kernel
theorem dL_law_291 : decode cL_law 291 = .ok (.iconst 1, 1) := by decide +kernel
theorem dL_law_292 : decode cL_law 292 = .ok (.iadd, 1) := by decide +kernel
theorem dL_law_293 : decode cL_law 293 = .ok (.iaload, 1) := by decide +kernel
theorem dL_law_294 : decode cL_law 294 = .ok (.invokevirtual 50, 3) := by decide +kernel
theorem dL_law_297 : decode cL_law 297 = .ok (.if_icmp .eq 196, 3) := by decide +kernel
theorem dL_law_300 : decode cL_law 300 = .ok (.iconst 0, 1) := by decide +kernel
theorem dL_law_301 : decode cL_law 301 = .ok (.ireturn, 1) := by decide +kernel
theorem dL_law_302 : decode cL_law 302 = .ok (.aload_n 1, 1) := by decide +kernel
theorem dL_law_303 : decode cL_law 303 = .ok (.invokevirtual 51, 3) := by decide +kernel
theorem dL_law_306 : decode cL_law 306 = .ok (.aload_n 2, 1) := by decide +kernel
theorem dL_law_307 : decode cL_law 307 = .ok (.invokevirtual 54, 3) := by decide +kernel
theorem dL_law_310 : decode cL_law 310 = .ok (.if_icmp .eq 183, 3) := by decide +kernel
theorem dL_law_313 : decode cL_law 313 = .ok (.iconst 0, 1) := by decide +kernel
theorem dL_law_314 : decode cL_law 314 = .ok (.ireturn, 1) := by decide +kernel
theorem dL_law_315 : decode cL_law 315 = .ok (.aload_n 1, 1) := by decide +kernel
theorem dL_law_316 : decode cL_law 316 = .ok (.aload_n 0, 1) := by decide +kernel
theorem dL_law_317 : decode cL_law 317 = .ok (.iload_n 3, 1) := by decide +kernel
theorem dL_law_318 : decode cL_law 318 = .ok (.iconst 1, 1) := by decide +kernel
theorem dL_law_319 : decode cL_law 319 = .ok (.iadd, 1) := by decide +kernel
theorem dL_law_320 : decode cL_law 320 = .ok (.iaload, 1) := by decide +kernel
theorem dL_law_321 : decode cL_law 321 = .ok (.aload_n 0, 1) := by decide +kernel
theorem dL_law_322 : decode cL_law 322 = .ok (.iload_n 3, 1) := by decide +kernel
theorem dL_law_323 : decode cL_law 323 = .ok (.iconst 2, 1) := by decide +kernel
theorem dL_law_324 : decode cL_law 324 = .ok (.iadd, 1) := by decide +kernel
theorem dL_law_325 : decode cL_law 325 = .ok (.iaload, 1) := by decide +kernel
theorem dL_law_326 : decode cL_law 326 = .ok (.invokevirtual 55, 3) := by decide +kernel
theorem dL_law_329 : decode cL_law 329 = .ok (.aload_n 2, 1) := by decide +kernel
theorem dL_law_330 : decode cL_law 330 = .ok (.aload_n 0, 1) := by decide +kernel
theorem dL_law_331 : decode cL_law 331 = .ok (.iload_n 3, 1) := by decide +kernel
theorem dL_law_332 : decode cL_law 332 = .ok (.iconst 1, 1) := by decide +kernel
theorem dL_law_333 : decode cL_law 333 = .ok (.iadd, 1) := by decide +kernel
theorem dL_law_334 : decode cL_law 334 = .ok (.iaload, 1) := by decide +kernel
theorem dL_law_335 : decode cL_law 335 = .ok (.aload_n 0, 1) := by decide +kernel
theorem dL_law_336 : decode cL_law 336 = .ok (.iload_n 3, 1) := by decide +kernel
theorem dL_law_337 : decode cL_law 337 = .ok (.iconst 2, 1) := by decide +kernel
theorem dL_law_338 : decode cL_law 338 = .ok (.iadd, 1) := by decide +kernel
theorem dL_law_339 : decode cL_law 339 = .ok (.iaload, 1) := by decide +kernel
theorem dL_law_340 : decode cL_law 340 = .ok (.invokevirtual 58, 3) := by decide +kernel
theorem dL_law_343 : decode cL_law 343 = .ok (.if_icmp .eq 150, 3) := by decide +kernel
theorem dL_law_346 : decode cL_law 346 = .ok (.iconst 0, 1) := by decide +kernel
theorem dL_law_347 : decode cL_law 347 = .ok (.ireturn, 1) := by decide +kernel
theorem dL_law_348 : decode cL_law 348 = .ok (.aload_n 1, 1) := by decide +kernel
theorem dL_law_349 : decode cL_law 349 = .ok (.aload_n 0, 1) := by decide +kernel
theorem dL_law_350 : decode cL_law 350 = .ok (.iload_n 3, 1) := by decide +kernel
theorem dL_law_351 : decode cL_law 351 = .ok (.iconst 1, 1) := by decide +kernel
theorem dL_law_352 : decode cL_law 352 = .ok (.iadd, 1) := by decide +kernel
theorem dL_law_353 : decode cL_law 353 = .ok (.iaload, 1) := by decide +kernel
theorem dL_law_354 : decode cL_law 354 = .ok (.aload_n 0, 1) := by decide +kernel
theorem dL_law_355 : decode cL_law 355 = .ok (.iload_n 3, 1) := by decide +kernel
theorem dL_law_356 : decode cL_law 356 = .ok (.iconst 2, 1) := by decide +kernel
theorem dL_law_357 : decode cL_law 357 = .ok (.iadd, 1) := by decide +kernel
theorem dL_law_358 : decode cL_law 358 = .ok (.iaload, 1) := by decide +kernel
theorem dL_law_359 : decode cL_law 359 = .ok (.aload_n 0, 1) := by decide +kernel
theorem dL_law_360 : decode cL_law 360 = .ok (.iload_n 3, 1) := by decide +kernel
theorem dL_law_361 : decode cL_law 361 = .ok (.iconst 3, 1) := by decide +kernel
theorem dL_law_362 : decode cL_law 362 = .ok (.iadd, 1) := by decide +kernel
theorem dL_law_363 : decode cL_law 363 = .ok (.iaload, 1) := by decide +kernel
theorem dL_law_364 : decode cL_law 364 = .ok (.invokevirtual 59, 3) := by decide +kernel
theorem dL_law_367 : decode cL_law 367 = .ok (.aload_n 2, 1) := by decide +kernel
theorem dL_law_368 : decode cL_law 368 = .ok (.aload_n 0, 1) := by decide +kernel
theorem dL_law_369 : decode cL_law 369 = .ok (.iload_n 3, 1) := by decide +kernel
theorem dL_law_370 : decode cL_law 370 = .ok (.iconst 1, 1) := by decide +kernel
theorem dL_law_371 : decode cL_law 371 = .ok (.iadd, 1) := by decide +kernel
theorem dL_law_372 : decode cL_law 372 = .ok (.iaload, 1) := by decide +kernel
theorem dL_law_373 : decode cL_law 373 = .ok (.aload_n 0, 1) := by decide +kernel
theorem dL_law_374 : decode cL_law 374 = .ok (.iload_n 3, 1) := by decide +kernel
theorem dL_law_375 : decode cL_law 375 = .ok (.iconst 2, 1) := by decide +kernel
theorem dL_law_376 : decode cL_law 376 = .ok (.iadd, 1) := by decide +kernel
theorem dL_law_377 : decode cL_law 377 = .ok (.iaload, 1) := by decide +kernel
theorem dL_law_378 : decode cL_law 378 = .ok (.aload_n 0, 1) := by decide +kernel
theorem dL_law_379 : decode cL_law 379 = .ok (.iload_n 3, 1) := by decide +kernel
theorem dL_law_380 : decode cL_law 380 = .ok (.iconst 3, 1) := by decide +kernel
theorem dL_law_381 : decode cL_law 381 = .ok (.iadd, 1) := by decide +kernel
theorem dL_law_382 : decode cL_law 382 = .ok (.iaload, 1) := by decide +kernel
theorem dL_law_383 : decode cL_law 383 = .ok (.invokevirtual 63, 3) := by decide +kernel
theorem dL_law_386 : decode cL_law 386 = .ok (.if_icmp .eq 107, 3) := by decide +kernel
theorem dL_law_389 : decode cL_law 389 = .ok (.iconst 0, 1) := by decide +kernel
theorem dL_law_390 : decode cL_law 390 = .ok (.ireturn, 1) := by decide +kernel
theorem dL_law_391 : decode cL_law 391 = .ok (.aload_n 1, 1) := by decide +kernel
theorem dL_law_392 : decode cL_law 392 = .ok (.aload_n 0, 1) := by decide +kernel
theorem dL_law_393 : decode cL_law 393 = .ok (.iload_n 3, 1) := by decide +kernel
theorem dL_law_394 : decode cL_law 394 = .ok (.iconst 1, 1) := by decide +kernel
theorem dL_law_395 : decode cL_law 395 = .ok (.iadd, 1) := by decide +kernel
theorem dL_law_396 : decode cL_law 396 = .ok (.iaload, 1) := by decide +kernel
theorem dL_law_397 : decode cL_law 397 = .ok (.aload_n 0, 1) := by decide +kernel
theorem dL_law_398 : decode cL_law 398 = .ok (.iload_n 3, 1) := by decide +kernel
theorem dL_law_399 : decode cL_law 399 = .ok (.iconst 2, 1) := by decide +kernel
theorem dL_law_400 : decode cL_law 400 = .ok (.iadd, 1) := by decide +kernel
theorem dL_law_401 : decode cL_law 401 = .ok (.iaload, 1) := by decide +kernel
theorem dL_law_402 : decode cL_law 402 = .ok (.aload_n 0, 1) := by decide +kernel
theorem dL_law_403 : decode cL_law 403 = .ok (.iload_n 3, 1) := by decide +kernel
theorem dL_law_404 : decode cL_law 404 = .ok (.iconst 3, 1) := by decide +kernel
theorem dL_law_405 : decode cL_law 405 = .ok (.iadd, 1) := by decide +kernel
theorem dL_law_406 : decode cL_law 406 = .ok (.iaload, 1) := by decide +kernel
theorem dL_law_407 : decode cL_law 407 = .ok (.invokevirtual 64, 3) := by decide +kernel
theorem dL_law_410 : decode cL_law 410 = .ok (.aload_n 2, 1) := by decide +kernel
theorem dL_law_411 : decode cL_law 411 = .ok (.aload_n 0, 1) := by decide +kernel
theorem dL_law_412 : decode cL_law 412 = .ok (.iload_n 3, 1) := by decide +kernel
theorem dL_law_413 : decode cL_law 413 = .ok (.iconst 1, 1) := by decide +kernel
theorem dL_law_414 : decode cL_law 414 = .ok (.iadd, 1) := by decide +kernel
theorem dL_law_415 : decode cL_law 415 = .ok (.iaload, 1) := by decide +kernel
theorem dL_law_416 : decode cL_law 416 = .ok (.aload_n 0, 1) := by decide +kernel
theorem dL_law_417 : decode cL_law 417 = .ok (.iload_n 3, 1) := by decide +kernel
theorem dL_law_418 : decode cL_law 418 = .ok (.iconst 2, 1) := by decide +kernel
theorem dL_law_419 : decode cL_law 419 = .ok (.iadd, 1) := by decide +kernel
theorem dL_law_420 : decode cL_law 420 = .ok (.iaload, 1) := by decide +kernel
theorem dL_law_421 : decode cL_law 421 = .ok (.aload_n 0, 1) := by decide +kernel
theorem dL_law_422 : decode cL_law 422 = .ok (.iload_n 3, 1) := by decide +kernel
theorem dL_law_423 : decode cL_law 423 = .ok (.iconst 3, 1) := by decide +kernel
theorem dL_law_424 : decode cL_law 424 = .ok (.iadd, 1) := by decide +kernel
theorem dL_law_425 : decode cL_law 425 = .ok (.iaload, 1) := by decide +kernel
theorem dL_law_426 : decode cL_law 426 = .ok (.invokevirtual 67, 3) := by decide +kernel
theorem dL_law_429 : decode cL_law 429 = .ok (.if_icmp .eq 64, 3) := by decide +kernel
theorem dL_law_432 : decode cL_law 432 = .ok (.iconst 0, 1) := by decide +kernel
theorem dL_law_433 : decode cL_law 433 = .ok (.ireturn, 1) := by decide +kernel
theorem dL_law_434 : decode cL_law 434 = .ok (.aload_n 1, 1) := by decide +kernel
theorem dL_law_435 : decode cL_law 435 = .ok (.aload_n 0, 1) := by decide +kernel
theorem dL_law_436 : decode cL_law 436 = .ok (.iload_n 3, 1) := by decide +kernel
theorem dL_law_437 : decode cL_law 437 = .ok (.iconst 1, 1) := by decide +kernel
theorem dL_law_438 : decode cL_law 438 = .ok (.iadd, 1) := by decide +kernel
theorem dL_law_439 : decode cL_law 439 = .ok (.iaload, 1) := by decide +kernel
theorem dL_law_440 : decode cL_law 440 = .ok (.invokevirtual 68, 3) := by decide +kernel
theorem dL_law_443 : decode cL_law 443 = .ok (.aload_n 2, 1) := by decide +kernel
theorem dL_law_444 : decode cL_law 444 = .ok (.aload_n 0, 1) := by decide +kernel
theorem dL_law_445 : decode cL_law 445 = .ok (.iload_n 3, 1) := by decide +kernel
theorem dL_law_446 : decode cL_law 446 = .ok (.iconst 1, 1) := by decide +kernel
theorem dL_law_447 : decode cL_law 447 = .ok (.iadd, 1) := by decide +kernel
theorem dL_law_448 : decode cL_law 448 = .ok (.iaload, 1) := by decide +kernel
theorem dL_law_449 : decode cL_law 449 = .ok (.invokevirtual 71, 3) := by decide +kernel
theorem dL_law_452 : decode cL_law 452 = .ok (.if_icmp .eq 41, 3) := by decide +kernel
theorem dL_law_455 : decode cL_law 455 = .ok (.iconst 0, 1) := by decide +kernel
theorem dL_law_456 : decode cL_law 456 = .ok (.ireturn, 1) := by decide +kernel
theorem dL_law_457 : decode cL_law 457 = .ok (.aload_n 1, 1) := by decide +kernel
theorem dL_law_458 : decode cL_law 458 = .ok (.aload_n 0, 1) := by decide +kernel
theorem dL_law_459 : decode cL_law 459 = .ok (.iload_n 3, 1) := by decide +kernel
theorem dL_law_460 : decode cL_law 460 = .ok (.iconst 1, 1) := by decide +kernel
theorem dL_law_461 : decode cL_law 461 = .ok (.iadd, 1) := by decide +kernel
theorem dL_law_462 : decode cL_law 462 = .ok (.iaload, 1) := by decide +kernel
theorem dL_law_463 : decode cL_law 463 = .ok (.invokevirtual 72, 3) := by decide +kernel
theorem dL_law_466 : decode cL_law 466 = .ok (.aload_n 2, 1) := by decide +kernel
theorem dL_law_467 : decode cL_law 467 = .ok (.aload_n 0, 1) := by decide +kernel
theorem dL_law_468 : decode cL_law 468 = .ok (.iload_n 3, 1) := by decide +kernel
theorem dL_law_469 : decode cL_law 469 = .ok (.iconst 1, 1) := by decide +kernel
theorem dL_law_470 : decode cL_law 470 = .ok (.iadd, 1) := by decide +kernel
theorem dL_law_471 : decode cL_law 471 = .ok (.iaload, 1) := by decide +kernel
theorem dL_law_472 : decode cL_law 472 = .ok (.invokevirtual 75, 3) := by decide +kernel
theorem dL_law_475 : decode cL_law 475 = .ok (.if_icmp .eq 18, 3) := by decide +kernel
theorem dL_law_478 : decode cL_law 478 = .ok (.iconst 0, 1) := by decide +kernel
theorem dL_law_479 : decode cL_law 479 = .ok (.ireturn, 1) := by decide +kernel
theorem dL_law_480 : decode cL_law 480 = .ok (.aload_n 1, 1) := by decide +kernel
theorem dL_law_481 : decode cL_law 481 = .ok (.invokevirtual 76, 3) := by decide +kernel
theorem dL_law_484 : decode cL_law 484 = .ok (.aload_n 2, 1) := by decide +kernel
theorem dL_law_485 : decode cL_law 485 = .ok (.invokevirtual 79, 3) := by decide +kernel
theorem dL_law_488 : decode cL_law 488 = .ok (.if_icmp .eq 5, 3) := by decide +kernel
theorem dL_law_491 : decode cL_law 491 = .ok (.iconst 0, 1) := by decide +kernel
theorem dL_law_492 : decode cL_law 492 = .ok (.ireturn, 1) := by decide +kernel
theorem dL_law_493 : decode cL_law 493 = .ok (.iinc 3 4, 3) := by decide +kernel
theorem dL_law_496 : decode cL_law 496 = .ok (.goto (-478), 3) := by decide +kernel
theorem dL_law_499 : decode cL_law 499 = .ok (.iconst 1, 1) := by decide +kernel
theorem dL_law_500 : decode cL_law 500 = .ok (.ireturn, 1) := by decide +kernel
end
section
/-! the law: its world, how a call moves it, and what ties the two objects; the first rows are the skeleton's -/
set_option maxRecDepth 100000
def R_law : String := "PhraseIndexLaw"
def lw_P (b : Addr) (xs : List Int32) (args : Array Value) (s : State) : Prop := args = #[.ref b] ∧ s.IntsAt b xs ∧ xs.length ≤ 256 ∧ (Jvm.Cond.and given_1 narrow_1).before args s = true
def lw_Q (_ : Array Value) (s : State) (o : Outcome) (t : State) : Prop := o = .returned (some (.int 1)) ∧ Framed s o t [] 600000 7290000
def lw_Z (below : List Frame) (a : Array Value) (s : State) : State → Prop := fun t => ∃ o, t.status = .running ∧ Ended t below o ∧ lw_Q a s o t
/-- the law's own end, with 1 on the stack, nothing written that was there before, its room as the claim has it -/
theorem lw_ret {p : Program} {l : Launch} {e : Env} {s : State} {m : MethodId} {below : List Frame} {meth : Method} {c : Code} {b : Nat} (hx : p.tables.exec = Jvm.exec) (hb : c.code = code) (hr : meth.sig.returnType = ret) (hlocks : meth.locks = false) {pc : Nat} {H : Heap} {ls : Array Slot} (hdg : decode code pc = .ok (.ireturn, 1)) : W p l e room_1 s m #[Value.ref b] below meth c H [] 600000 7290000 (lw_Z below #[Value.ref b] s) (F0 m pc ls [.int 1]) := by
  intro T hT X
  obtain ⟨fs, hret, hrun, hended, hW, hframe⟩ := X.leave (v := some (.int 1)) (hlocks := hlocks) (fun h => by rw [hr] at h; cases h)
  have hmeth' : T.vm.method? m = some meth := X.method'
  refine ⟨T.setFrames fs, ?_, .returned (some (.int 1)), hrun, hended, rfl, ⟨_, rfl⟩, hW, hframe⟩
  jvm_step X.here [X.here.top, hx, hb, hdg, hmeth', hr, ret, narrow_b1]
  (try refine ⟨rfl, ?_⟩); (try refine ⟨rfl, ?_⟩)
  first | (intro acts; rw [hret _ acts rfl rfl rfl]) | rw [hret _ _ rfl rfl rfl]
  exact Steps.refl _
/-- what holds at the law's entry: the machine, the code, the tables' words (any of lw_tbl by 'hts w (by decide +kernel)'), the script of L ints xs at the cell b, what the Statement gives of the start (any of its parts by flat_of_before) -/
def lw_At (p : Program) (s : State) (m : MethodId) (meth : Method) (c : Code) (b L : Nat) (xs : Nat → Int32) : Prop :=
  p.tables.exec = Jvm.exec ∧ c.code = code ∧ meth.sig.returnType = ret ∧ c.maxLocals = 4 ∧ s.vm.findClass R_law = some m.cls ∧ (∀ w ∈ lw_tbl, w.before #[Value.ref b] s = true) ∧ va_X b L xs s s.heap ∧ b < s.heap.size ∧ meth.locks = false ∧ (Jvm.Cond.and given_1 narrow_1).before #[Value.ref b] s = true
/-- both objects and what they hold -/
def lWd (D : va_G) (h : Nat → Nat) (d : Nat → ClassId) (h' : Nat → Nat) (d' : Nat → ClassId) (s : State) (H : Heap) (locs : List Loc) (u v : gU) : Prop :=
  va_K D vwCl (xT d ++ mT d') s ∧ va_P D vwCl (xL h d u ++ mL h' d' v) H ∧ va_D (fun q : Nat => s.heap.size ≤ q) (xL h d u ++ mL h' d' v) ∧ va_S (fun q : Nat => s.heap.size ≤ q) s.heap H locs
section LC
variable {p : Program} {l : Launch} {e : Env} {R : Room} {s : State} {m : MethodId} {args : Array Value} {below : List Frame} {meth : Method} {c : Code} {H : Heap} {locs : List Loc} {cells slots : Nat} {Q : State → Prop}
variable {cc bytes : ByteArray} {pc nL n index maxL : Nat} {ls : Array Slot} {rest As : List Value} {D : va_G} {h h' : Nat → Nat} {d d' : Nat → ClassId} {u v : gU} {own : String} {y : MethodName} {rt : FieldType} {rm : Room}
theorem lx_call {post : Int32 → gU → Prop} (S : CallFix p m c cc nL s args lw_all own) (hw : lWd D h d h' d' s H locs u v) (hM : gMi l y bytes maxL rt rm D (xL h d) (xT d) (.ref (h 0) :: As) u post) (cw : CallW R s args own RX0 index y bytes maxL (some rt) (ws_ y bytes maxL (some rt)) rm 0 0 n)
    (hn : As.length = n) (hsz : ls.size = nL) {st : List Value} (hst : st = As.reverse ++ .ref (h 0) :: rest) (hroom : (rest.map fun v => v.category).sum ≤ 8) (hdg : decode cc pc = .ok (.invokevirtual index, 3)) (hf : cells ≤ R.cells ∧ slots ≤ R.slots)
    (kk : ∀ (r : Int32) (u' : gU) (H1 : Heap) (locs1 : List Loc), post r u' → lWd D h d h' d' s H1 locs1 u' v → W p l e R s m args below meth c H1 locs1 cells slots Q (F0 m (pc + 3) ls (.int r :: rest))) : W p l e R s m args below meth c H locs cells slots Q (F0 m pc ls st) := by
  obtain ⟨hK, hP, hD, hS⟩ := hw
  have hPc : va_P D vwCl (xL h d u) H := hP.sub [0, 1, 2, 3, 4, 5, 6, 7, 8, 9] rfl
  have hDc : va_D (fun q : Nat => s.heap.size ≤ q) (xL h d u) := hD.sub [0, 1, 2, 3, 4, 5, 6, 7, 8, 9] (by decide) rfl
  have hKc : va_K D vwCl (xT d) s := hK.sub [0, 1, 2, 3, 4, 5, 6, 7, 8] rfl
  have hFc := va_free (wc := xL h d u) hD hS (fun _ h => h) [0, 1, 2, 3, 4, 5, 6, 7, 8, 9] rfl
  refine va_calli (va_runV (As := As) (rest := rest) S (hM H.size) cw ⟨gPre_blind, va_recv hKc hPc (ci := 0) (q0 := 0) rfl rfl, fun U hU hW => ⟨rfl, by rw [hU], by rw [hU]; exact hPc, va_K.moved hW.alike hKc, hDc.weaken (fun _ _ _ _ => trivial)⟩⟩ rfl hn hsz hst (lv_room hroom) hdg hf) hS (fun q _ h => hFc q h) hFc (fun r u' t H1 locs1 ht hvm hp hB hz1 hk1 hS => kk r u' H1 locs1 hp ?_)
  obtain ⟨hP1, hK1, hD1⟩ := hB
  rw [ht] at hP1
  obtain ⟨hP2, hD2⟩ := va_join (wr := mL h' d' v) (w1 := xL h d u') hP hD [0, 1, 2, 3, 4, 5, 6, 7, 8, 9] [10, 11, 12, 13, 14, 15, 16] rfl rfl (by decide) (by decide) hk1 hFc hP1 hD1
  exact ⟨hK, hP2.sub [7, 8, 9, 10, 11, 12, 13, 14, 15, 16, 0, 1, 2, 3, 4, 5, 6] rfl, hD2.sub [7, 8, 9, 10, 11, 12, 13, 14, 15, 16, 0, 1, 2, 3, 4, 5, 6] (by decide) rfl, hS⟩
theorem lm_call {post : Int32 → gU → Prop} (S : CallFix p m c cc nL s args lw_all own) (hw : lWd D h d h' d' s H locs u v) (hM : gMi l y bytes maxL rt rm D (mL h' d') (mT d') (.ref (h' 0) :: As) v post) (cw : CallW R s args own RX1 index y bytes maxL (some rt) (ws_ y bytes maxL (some rt)) rm 0 0 n)
    (hn : As.length = n) (hsz : ls.size = nL) {st : List Value} (hst : st = As.reverse ++ .ref (h' 0) :: rest) (hroom : (rest.map fun v => v.category).sum ≤ 8) (hdg : decode cc pc = .ok (.invokevirtual index, 3)) (hf : cells ≤ R.cells ∧ slots ≤ R.slots)
    (kk : ∀ (r : Int32) (u' : gU) (H1 : Heap) (locs1 : List Loc), post r u' → lWd D h d h' d' s H1 locs1 u u' → W p l e R s m args below meth c H1 locs1 cells slots Q (F0 m (pc + 3) ls (.int r :: rest))) : W p l e R s m args below meth c H locs cells slots Q (F0 m pc ls st) := by
  obtain ⟨hK, hP, hD, hS⟩ := hw
  have hPc : va_P D vwCl (mL h' d' v) H := hP.sub [10, 11, 12, 13, 14, 15, 16] rfl
  have hDc : va_D (fun q : Nat => s.heap.size ≤ q) (mL h' d' v) := hD.sub [10, 11, 12, 13, 14, 15, 16] (by decide) rfl
  have hKc : va_K D vwCl (mT d') s := hK.sub [9, 10, 11, 12, 13, 14] rfl
  have hFc := va_free (wc := mL h' d' v) hD hS (fun _ h => h) [10, 11, 12, 13, 14, 15, 16] rfl
  refine va_calli (va_runV (As := As) (rest := rest) S (hM H.size) cw ⟨gPre_blind, va_recv hKc hPc (ci := 1) (q0 := 0) rfl rfl, fun U hU hW => ⟨rfl, by rw [hU], by rw [hU]; exact hPc, va_K.moved hW.alike hKc, hDc.weaken (fun _ _ _ _ => trivial)⟩⟩ rfl hn hsz hst (lv_room hroom) hdg hf) hS (fun q _ h => hFc q h) hFc (fun r u' t H1 locs1 ht hvm hp hB hz1 hk1 hS => kk r u' H1 locs1 hp ?_)
  obtain ⟨hP1, hK1, hD1⟩ := hB
  rw [ht] at hP1
  obtain ⟨hP2, hD2⟩ := va_join (wr := xL h d u) (w1 := mL h' d' u') hP hD [10, 11, 12, 13, 14, 15, 16] [0, 1, 2, 3, 4, 5, 6, 7, 8, 9] rfl rfl (by decide) (by decide) hk1 hFc hP1 hD1
  exact ⟨hK, hP2.sub [0, 1, 2, 3, 4, 5, 6, 7, 8, 9, 10, 11, 12, 13, 14, 15, 16] rfl, hD2.sub [0, 1, 2, 3, 4, 5, 6, 7, 8, 9, 10, 11, 12, 13, 14, 15, 16] (by decide) rfl, hS⟩
theorem l_sld {b L i : Nat} {xs : Nat → Int32} (S : CallFix p m c cc nL s args lw_all own) (hX : va_X b L xs s s.heap) (hbl : b < s.heap.size) (hw : lWd D h d h' d' s H locs u v) (hi : i < L) (hL : L ≤ 256) (hdg : decode cc pc = .ok (.iaload, 1))
    (kk : W p l e R s m args below meth c H locs cells slots Q (F0 m (pc + 1) ls (.int (xs i) :: rest))) : W p l e R s m args below meth c H locs cells slots Q (F0 m pc ls (.int (nI i) :: .ref b :: rest)) := by
  refine va_sld (A := fun q : Nat => s.heap.size ≤ q) S.1 S.2.1 hX hbl (Nat.not_le.mpr hbl) hw.2.2.2 (vp_in_nI hi (by omega)) hdg ?_
  rw [nI_clamp (by omega)]
  exact kk
theorem l_len {b L : Nat} {xs : Nat → Int32} (S : CallFix p m c cc nL s args lw_all own) (hX : va_X b L xs s s.heap) (hbl : b < s.heap.size) (hw : lWd D h d h' d' s H locs u v) (hdg : decode cc pc = .ok (.arraylength, 1))
    (kk : W p l e R s m args below meth c H locs cells slots Q (F0 m (pc + 1) ls (.int (nI L) :: rest))) : W p l e R s m args below meth c H locs cells slots Q (F0 m pc ls (.ref b :: rest)) :=
  va_slen (A := fun q : Nat => s.heap.size ≤ q) S.1 S.2.1 hX hbl (Nat.not_le.mpr hbl) hw.2.2.2 hdg kk
end LC
theorem l_cmp {L i : Nat} (hL : L ≤ 256) (hi : i ≤ 300) : nI L - nI 4 < nI i ↔ L < i + 4 := by
  rw [Int32.lt_iff_toInt_lt, pk_sub_toInt (by omega) (by decide), nI_toInt (by omega)]
  omega
/-- what ties the two objects -/
def LR (u v : gU) : Prop := xI u ∧ v 0 = u 0 ∧ v 1 = u 1 ∧ v 3 = u 3 ∧ v 2 0 = u 4 0
theorem LR_mI {u v : gU} (h : LR u v) : mI v := by
  obtain ⟨h1, h2, h3, h4, h5⟩ := h
  unfold mI
  rw [h2, h3, h4, h5]
  exact ⟨h1.1, h1.2.1, h1.2.2.2⟩
theorem LR_kp {u v u' v' : gU} (h : LR u v) (h1 : kp u u') (h2 : km v v') : LR u' v' := by
  obtain ⟨g1, g2, g3, g4, g5⟩ := h
  refine ⟨xI_kp g1 h1, ?_, ?_, ?_, ?_⟩
  · rw [h1 0 (by decide), h2 0 (by decide), g2]
  · rw [h1 1 (by decide), h2 1 (by decide), g3]
  · rw [h1 3 (by decide), h2 3 (by decide), g4]
  · rw [h1 4 (by decide), h2 2 (by decide), g5]
theorem LR_0 : LR (fun _ _ => 0) (fun _ _ => 0) := by
  refine ⟨⟨fun _ => Nat.zero_le _, fun _ => by show 0 < 12; decide, fun dd w hd hw p => ?_, qI_0⟩, rfl, rfl, rfl, rfl⟩
  show (0 : Nat).testBit p = _
  rw [Nat.zero_testBit]
  exact (decide_eq_false (fun q => absurd q.1 (Nat.not_lt_zero p))).symm
theorem lr_write {u v u' v' : gU} {a b r r' : Int32} (h : LR u v) (h1 : (r, u' 0, u' 1) = wrF (u 0) (u 1) a b ∧ u' 3 = u 3 ∧ u' 4 = u 4 ∧ xI u') (h2 : (r', v' 0, v' 1) = wrF (v 0) (v 1) a b ∧ v' 2 = v 2 ∧ v' 3 = v 3) : r = r' ∧ LR u' v' := by
  obtain ⟨g1, g2, g3, g4, g5⟩ := h
  rw [g2, g3] at h2
  have e := h1.1.trans h2.1.symm
  rw [Prod.mk.injEq, Prod.mk.injEq] at e
  exact ⟨e.1, h1.2.2.2, e.2.1.symm, e.2.2.symm, by rw [h1.2.1, h2.2.2, g4], by rw [h1.2.2.1, h2.2.1, g5]⟩
theorem lr_change {u v u' v' : gU} {a g b r r' : Int32} (h : LR u v) (h1 : (r, u' 1) = chF (u 0) (u 1) a g b ∧ u' 0 = u 0 ∧ u' 3 = u 3 ∧ u' 4 = u 4 ∧ xI u') (h2 : (r', v' 1) = chF (v 0) (v 1) a g b ∧ v' 0 = v 0 ∧ v' 2 = v 2 ∧ v' 3 = v 3) : r = r' ∧ LR u' v' := by
  obtain ⟨g1, g2, g3, g4, g5⟩ := h
  rw [g2, g3] at h2
  have e := h1.1.trans h2.1.symm
  rw [Prod.mk.injEq] at e
  exact ⟨e.1, h1.2.2.2.2, by rw [h2.2.1, h1.2.1], e.2.symm, by rw [h1.2.2.1, h2.2.2.2, g4], by rw [h1.2.2.2.1, h2.2.2.1, g5]⟩
theorem lr_erase {u v u' v' : gU} {a r r' : Int32} (h : LR u v) (h1 : (r, u' 0) = erF (u 0) a ∧ u' 1 = u 1 ∧ u' 3 = u 3 ∧ u' 4 = u 4 ∧ xI u') (h2 : (r', v' 0) = erF (v 0) a ∧ v' 1 = v 1 ∧ v' 2 = v 2 ∧ v' 3 = v 3) : r = r' ∧ LR u' v' := by
  obtain ⟨g1, g2, g3, g4, g5⟩ := h
  rw [g2] at h2
  have e := h1.1.trans h2.1.symm
  rw [Prod.mk.injEq] at e
  exact ⟨e.1, h1.2.2.2.2, e.2.symm, by rw [h2.2.1, h1.2.1, g3], by rw [h1.2.2.1, h2.2.2.2, g4], by rw [h1.2.2.2.1, h2.2.2.1, g5]⟩
theorem lr_length {u v u' v' : gU} {a r r' : Int32} (h : LR u v) (h1 : r = leF (u 0) a ∧ u = u') (h2 : r' = leF (v 0) a ∧ v = v') : r = r' ∧ LR u' v' := by
  obtain ⟨rfl, rfl⟩ := h1
  obtain ⟨rfl, rfl⟩ := h2
  exact ⟨by rw [h.2.1], h⟩
theorem lr_ask {u v u' v' : gU} {a r r' : Int32} (h : LR u v) (h1 : (r, u' 3, u' 4 0) = asF (u 3) (u 4 0) a ∧ u' 0 = u 0 ∧ u' 1 = u 1 ∧ xI u') (h2 : (r', v' 3, v' 2 0) = asF (v 3) (v 2 0) a ∧ v' 0 = v 0 ∧ v' 1 = v 1) : r = r' ∧ LR u' v' := by
  obtain ⟨g1, g2, g3, g4, g5⟩ := h
  rw [g4, g5] at h2
  have e := h1.1.trans h2.1.symm
  rw [Prod.mk.injEq, Prod.mk.injEq] at e
  exact ⟨e.1, h1.2.2.2, by rw [h1.2.1, h2.2.1, g2], by rw [h1.2.2.1, h2.2.2, g3], e.2.1.symm, e.2.2.symm⟩
theorem lr_unask {u v u' v' : gU} {r r' : Int32} (h : LR u v) (h1 : (u 4 0 = 0 → r = -1 ∧ u = u') ∧ (0 < u 4 0 → r = nI (u 3 (u 4 0 - 1)) ∧ u' = gup u 4 0 (u 4 0 - 1))) (h2 : (v 2 0 = 0 → r' = -1 ∧ v = v') ∧ (0 < v 2 0 → r' = nI (v 3 (v 2 0 - 1)) ∧ v' = gup v 2 0 (v 2 0 - 1))) : r = r' ∧ LR u' v' := by
  obtain ⟨g1, g2, g3, g4, g5⟩ := h
  rw [g5] at h2
  by_cases c : u 4 0 = 0
  · obtain ⟨rfl, rfl⟩ := h1.1 c
    obtain ⟨rfl, rfl⟩ := h2.1 c
    exact ⟨rfl, g1, g2, g3, g4, g5⟩
  · obtain ⟨rfl, rfl⟩ := h1.2 (by omega)
    obtain ⟨rfl, rfl⟩ := h2.2 (by omega)
    refine ⟨by rw [g4], ⟨?_, ?_, ?_, ?_⟩, ?_, ?_, ?_, ?_⟩
    · rw [gup_n _ _ _ (by decide)]; exact g1.1
    · rw [gup_n _ _ _ (by decide)]; exact g1.2.1
    · rw [gup_n _ _ _ (by decide), gup_n _ _ _ (by decide), gup_n _ _ _ (by decide)]; exact g1.2.2.1
    · rw [gup_n _ _ _ (by decide), gup_s, va_up_self]; exact qI_sub g1.2.2.2
    · rw [gup_n _ _ _ (by decide), gup_n _ _ _ (by decide)]; exact g2
    · rw [gup_n _ _ _ (by decide), gup_n _ _ _ (by decide)]; exact g3
    · rw [gup_n _ _ _ (by decide), gup_n _ _ _ (by decide)]; exact g4
    · rw [gup_s, gup_s, va_up_self, va_up_self]
theorem lr_complete {u v u' v' : gU} {r r' : Int32} {X : Prop} (h : LR u v) (h1 : r = nI (bN (nd (u 3) (u 4 0) = 0)) ∧ (∀ a, a < 5 ∨ 9 ≤ a → u' a = u a) ∧ X) (h2 : r' = nI (bN (nd (v 3) (v 2 0) = 0)) ∧ ∀ a, a ≠ 6 → v' a = v a) : r = r' ∧ LR u' v' := by
  refine ⟨?_, LR_kp h (fun a ha => h1.2.1 a (Or.inl ha)) (fun a ha => h2.2 a (by omega))⟩
  rw [h1.1, h2.1, h.2.2.2.1, h.2.2.2.2]
theorem lr_holds {u v u' v' : gU} {a r r' : Int32} (h : LR u v) (h1 : r = nI (hoF (u 0) (u 1) (u 3) (u 4 0) a) ∧ kp u u') (h2 : r' = nI (hoF (v 0) (v 1) (v 3) (v 2 0) a) ∧ km v v') : r = r' ∧ LR u' v' := by
  refine ⟨?_, LR_kp h h1.2 h2.2⟩
  rw [h1.1, h2.1, h.2.1, h.2.2.1, h.2.2.2.1, h.2.2.2.2]
theorem lr_matching {u v u' v' : gU} {r r' : Int32} (h : LR u v) (h1 : r = nI (mtf (u 0) (u 1) (u 3) (u 4 0) 6) ∧ kp u u') (h2 : r' = nI (mtf (v 0) (v 1) (v 3) (v 2 0) 6) ∧ km v v') : r = r' ∧ LR u' v' := by
  refine ⟨?_, LR_kp h h1.2 h2.2⟩
  rw [h1.1, h2.1, h.2.1, h.2.2.1, h.2.2.2.1, h.2.2.2.2]
theorem lr_spans {u v u' v' : gU} {g a r r' : Int32} (h : LR u v) (h1 : spR (u 0) (u 1) (u 3) (u 4 0) g a r ∧ kp u u') (h2 : spR (v 0) (v 1) (v 3) (v 2 0) g a r' ∧ km v v') : r = r' ∧ LR u' v' := by
  refine ⟨?_, LR_kp h h1.2 h2.2⟩
  rw [h.2.1, h.2.2.1, h.2.2.2.1, h.2.2.2.2] at h2
  exact spR_eq h1.1 h2.1
theorem lr_begins {u v u' v' : gU} {g a b r r' : Int32} (h : LR u v) (h1 : beR (u 0) (u 1) (u 3) (u 4 0) g a b r ∧ kp u u') (h2 : beR (v 0) (v 1) (v 3) (v 2 0) g a b r' ∧ km v v') : r = r' ∧ LR u' v' := by
  refine ⟨?_, LR_kp h h1.2 h2.2⟩
  rw [h.2.1, h.2.2.1, h.2.2.2.1, h.2.2.2.2] at h2
  exact beR_eq h1.1 h2.1
theorem lr_ends {u v u' v' : gU} {g a b r r' : Int32} (h : LR u v) (h1 : enR (u 0) (u 1) (u 3) (u 4 0) g a b r ∧ kp u u') (h2 : enR (v 0) (v 1) (v 3) (v 2 0) g a b r' ∧ km v v') : r = r' ∧ LR u' v' := by
  refine ⟨?_, LR_kp h h1.2 h2.2⟩
  rw [h.2.1, h.2.2.1, h.2.2.2.1, h.2.2.2.2] at h2
  exact enR_eq h1.1 h2.1
theorem lr_having {u v u' v' : gU} {b r r' : Int32} (h : LR u v) (h1 : r = hvF (u 0) (u 1) b ∧ u = u') (h2 : r' = hvF (v 0) (v 1) b ∧ v = v') : r = r' ∧ LR u' v' := by
  obtain ⟨rfl, rfl⟩ := h1
  obtain ⟨rfl, rfl⟩ := h2
  exact ⟨by rw [h.2.1, h.2.2.1], h⟩
theorem lr_frequency {u v u' v' : gU} {b r r' : Int32} (h : LR u v) (h1 : r = frF (u 0) (u 1) b ∧ u = u') (h2 : r' = frF (v 0) (v 1) b ∧ v = v') : r = r' ∧ LR u' v' := by
  obtain ⟨rfl, rfl⟩ := h1
  obtain ⟨rfl, rfl⟩ := h2
  exact ⟨by rw [h.2.1, h.2.2.1], h⟩
theorem lr_hasTokens {u v u' v' : gU} {r r' : Int32} (h : LR u v) (h1 : r = nI (htf (u 3) (u 4 0)) ∧ u = u') (h2 : r' = nI (htf (v 3) (v 2 0)) ∧ v = v') : r = r' ∧ LR u' v' := by
  obtain ⟨rfl, rfl⟩ := h1
  obtain ⟨rfl, rfl⟩ := h2
  exact ⟨by rw [h.2.2.2.1, h.2.2.2.2], h⟩
end
section
/-! the law: cases, loop, start, printed by gen/law.py -/
set_option maxRecDepth 100000
set_option maxHeartbeats 4000000 in
theorem law_c0 {p : Program} {l : Launch} {e : Env} {s : State} {m : MethodId} {below : List Frame} {meth : Method} {c : Code} {cells slots : Nat} {Q : State → Prop} {b L : Nat} {xs : Nat → Int32} {D : va_G} {h h' : Nat → Nat} {d d' : Nat → ClassId} (S : CallFix p m c cL_law 4 s #[Value.ref b] lw_all "PhraseIndexLaw") (hX : va_X b L xs s s.heap) (hbl : b < s.heap.size) (hL : L ≤ 256) (hcs : cells ≤ room_1.cells ∧ slots ≤ room_1.slots) {i : Nat} (hi : i + 4 ≤ L) {u v : gU} {H : Heap} {locs : List Loc} {ls : Array Slot} (hR : LR u v) (hw : lWd D h d h' d' s H locs u v) (hl : lv_has ls 4 [(3, .int (nI i)), (2, .ref (h' 0)), (1, .ref (h 0)), (0, .ref b)]) (kk : ∀ (u' v' : gU) (H : Heap) (locs : List Loc), LR u' v' → lWd D h d h' d' s H locs u' v' → W p l e room_1 s m #[Value.ref b] below meth c H locs cells slots Q (F0 m 493 ls [])) : W p l e room_1 s m #[Value.ref b] below meth c H locs cells slots Q (F0 m 108 ls []) := by
  have hm := LR_mI hR
  refine lv_aload_n S.1 S.2.1 dL_law_108 rfl (lv_at hl 2 rfl) ?_
  refine lv_aload_n S.1 S.2.1 dL_law_109 rfl (lv_at hl 3 rfl) ?_
  refine lv_iload_n S.1 S.2.1 dL_law_110 rfl (lv_at hl 0 rfl) ?_
  refine lv_iconst (v := nI 1) S.1 S.2.1 dL_law_111 (by decide) ?_
  refine n_iadd S dL_law_112 ?_
  refine l_sld S hX hbl hw (by omega) hL dL_law_113 ?_
  refine lv_aload_n S.1 S.2.1 dL_law_114 rfl (lv_at hl 3 rfl) ?_
  refine lv_iload_n S.1 S.2.1 dL_law_115 rfl (lv_at hl 0 rfl) ?_
  refine lv_iconst (v := nI 2) S.1 S.2.1 dL_law_116 (by decide) ?_
  refine n_iadd S dL_law_117 ?_
  refine l_sld S hX hbl hw (by omega) hL dL_law_118 ?_
  refine lx_call (As := [.int (xs (i + 1)), .int (xs (i + 2))]) (rest := []) S hw (mX_write l D h d u (xs (i + 1)) (xs (i + 2)) hR.1) (cw_L_X0_write S.2.2.2.2 ⟨by decide, by decide⟩) rfl hl.1 rfl (Nat.le_of_ble_eq_true rfl) dL_law_119 hcs (fun r1 u1 H locs hp1 hw => ?_)
  refine lv_aload_n S.1 S.2.1 dL_law_122 rfl (lv_at hl 1 rfl) ?_
  refine lv_aload_n S.1 S.2.1 dL_law_123 rfl (lv_at hl 3 rfl) ?_
  refine lv_iload_n S.1 S.2.1 dL_law_124 rfl (lv_at hl 0 rfl) ?_
  refine lv_iconst (v := nI 1) S.1 S.2.1 dL_law_125 (by decide) ?_
  refine n_iadd S dL_law_126 ?_
  refine l_sld S hX hbl hw (by omega) hL dL_law_127 ?_
  refine lv_aload_n S.1 S.2.1 dL_law_128 rfl (lv_at hl 3 rfl) ?_
  refine lv_iload_n S.1 S.2.1 dL_law_129 rfl (lv_at hl 0 rfl) ?_
  refine lv_iconst (v := nI 2) S.1 S.2.1 dL_law_130 (by decide) ?_
  refine n_iadd S dL_law_131 ?_
  refine l_sld S hX hbl hw (by omega) hL dL_law_132 ?_
  refine lm_call (As := [.int (xs (i + 1)), .int (xs (i + 2))]) (rest := [.int r1]) S hw (mM_write l D h' d' v (xs (i + 1)) (xs (i + 2)) hm) (cw_L_X1_write S.2.2.2.2 ⟨by decide, by decide⟩) rfl hl.1 rfl (Nat.le_of_ble_eq_true rfl) dL_law_133 hcs (fun r2 v1 H locs hp2 hw => ?_)
  exact lv_icmp_eq (tgt := 493) S.1 S.2.1 dL_law_136 (by decide) (fun _ => kk u1 v1 _ _ (lr_write hR hp1 hp2).2 hw) (fun q => absurd (lr_write hR hp1 hp2).1 q)
set_option maxHeartbeats 4000000 in
theorem law_c1 {p : Program} {l : Launch} {e : Env} {s : State} {m : MethodId} {below : List Frame} {meth : Method} {c : Code} {cells slots : Nat} {Q : State → Prop} {b L : Nat} {xs : Nat → Int32} {D : va_G} {h h' : Nat → Nat} {d d' : Nat → ClassId} (S : CallFix p m c cL_law 4 s #[Value.ref b] lw_all "PhraseIndexLaw") (hX : va_X b L xs s s.heap) (hbl : b < s.heap.size) (hL : L ≤ 256) (hcs : cells ≤ room_1.cells ∧ slots ≤ room_1.slots) {i : Nat} (hi : i + 4 ≤ L) {u v : gU} {H : Heap} {locs : List Loc} {ls : Array Slot} (hR : LR u v) (hw : lWd D h d h' d' s H locs u v) (hl : lv_has ls 4 [(3, .int (nI i)), (2, .ref (h' 0)), (1, .ref (h 0)), (0, .ref b)]) (kk : ∀ (u' v' : gU) (H : Heap) (locs : List Loc), LR u' v' → lWd D h d h' d' s H locs u' v' → W p l e room_1 s m #[Value.ref b] below meth c H locs cells slots Q (F0 m 493 ls [])) : W p l e room_1 s m #[Value.ref b] below meth c H locs cells slots Q (F0 m 141 ls []) := by
  have hm := LR_mI hR
  refine lv_aload_n S.1 S.2.1 dL_law_141 rfl (lv_at hl 2 rfl) ?_
  refine lv_aload_n S.1 S.2.1 dL_law_142 rfl (lv_at hl 3 rfl) ?_
  refine lv_iload_n S.1 S.2.1 dL_law_143 rfl (lv_at hl 0 rfl) ?_
  refine lv_iconst (v := nI 1) S.1 S.2.1 dL_law_144 (by decide) ?_
  refine n_iadd S dL_law_145 ?_
  refine l_sld S hX hbl hw (by omega) hL dL_law_146 ?_
  refine lv_aload_n S.1 S.2.1 dL_law_147 rfl (lv_at hl 3 rfl) ?_
  refine lv_iload_n S.1 S.2.1 dL_law_148 rfl (lv_at hl 0 rfl) ?_
  refine lv_iconst (v := nI 2) S.1 S.2.1 dL_law_149 (by decide) ?_
  refine n_iadd S dL_law_150 ?_
  refine l_sld S hX hbl hw (by omega) hL dL_law_151 ?_
  refine lv_aload_n S.1 S.2.1 dL_law_152 rfl (lv_at hl 3 rfl) ?_
  refine lv_iload_n S.1 S.2.1 dL_law_153 rfl (lv_at hl 0 rfl) ?_
  refine lv_iconst (v := nI 3) S.1 S.2.1 dL_law_154 (by decide) ?_
  refine n_iadd S dL_law_155 ?_
  refine l_sld S hX hbl hw (by omega) hL dL_law_156 ?_
  refine lx_call (As := [.int (xs (i + 1)), .int (xs (i + 2)), .int (xs (i + 3))]) (rest := []) S hw (mX_change l D h d u (xs (i + 1)) (xs (i + 2)) (xs (i + 3)) hR.1) (cw_L_X0_change S.2.2.2.2 ⟨by decide, by decide⟩) rfl hl.1 rfl (Nat.le_of_ble_eq_true rfl) dL_law_157 hcs (fun r1 u1 H locs hp1 hw => ?_)
  refine lv_aload_n S.1 S.2.1 dL_law_160 rfl (lv_at hl 1 rfl) ?_
  refine lv_aload_n S.1 S.2.1 dL_law_161 rfl (lv_at hl 3 rfl) ?_
  refine lv_iload_n S.1 S.2.1 dL_law_162 rfl (lv_at hl 0 rfl) ?_
  refine lv_iconst (v := nI 1) S.1 S.2.1 dL_law_163 (by decide) ?_
  refine n_iadd S dL_law_164 ?_
  refine l_sld S hX hbl hw (by omega) hL dL_law_165 ?_
  refine lv_aload_n S.1 S.2.1 dL_law_166 rfl (lv_at hl 3 rfl) ?_
  refine lv_iload_n S.1 S.2.1 dL_law_167 rfl (lv_at hl 0 rfl) ?_
  refine lv_iconst (v := nI 2) S.1 S.2.1 dL_law_168 (by decide) ?_
  refine n_iadd S dL_law_169 ?_
  refine l_sld S hX hbl hw (by omega) hL dL_law_170 ?_
  refine lv_aload_n S.1 S.2.1 dL_law_171 rfl (lv_at hl 3 rfl) ?_
  refine lv_iload_n S.1 S.2.1 dL_law_172 rfl (lv_at hl 0 rfl) ?_
  refine lv_iconst (v := nI 3) S.1 S.2.1 dL_law_173 (by decide) ?_
  refine n_iadd S dL_law_174 ?_
  refine l_sld S hX hbl hw (by omega) hL dL_law_175 ?_
  refine lm_call (As := [.int (xs (i + 1)), .int (xs (i + 2)), .int (xs (i + 3))]) (rest := [.int r1]) S hw (mM_change l D h' d' v (xs (i + 1)) (xs (i + 2)) (xs (i + 3)) hm) (cw_L_X1_change S.2.2.2.2 ⟨by decide, by decide⟩) rfl hl.1 rfl (Nat.le_of_ble_eq_true rfl) dL_law_176 hcs (fun r2 v1 H locs hp2 hw => ?_)
  exact lv_icmp_eq (tgt := 493) S.1 S.2.1 dL_law_179 (by decide) (fun _ => kk u1 v1 _ _ (lr_change hR hp1 hp2).2 hw) (fun q => absurd (lr_change hR hp1 hp2).1 q)
set_option maxHeartbeats 4000000 in
theorem law_c2 {p : Program} {l : Launch} {e : Env} {s : State} {m : MethodId} {below : List Frame} {meth : Method} {c : Code} {cells slots : Nat} {Q : State → Prop} {b L : Nat} {xs : Nat → Int32} {D : va_G} {h h' : Nat → Nat} {d d' : Nat → ClassId} (S : CallFix p m c cL_law 4 s #[Value.ref b] lw_all "PhraseIndexLaw") (hX : va_X b L xs s s.heap) (hbl : b < s.heap.size) (hL : L ≤ 256) (hcs : cells ≤ room_1.cells ∧ slots ≤ room_1.slots) {i : Nat} (hi : i + 4 ≤ L) {u v : gU} {H : Heap} {locs : List Loc} {ls : Array Slot} (hR : LR u v) (hw : lWd D h d h' d' s H locs u v) (hl : lv_has ls 4 [(3, .int (nI i)), (2, .ref (h' 0)), (1, .ref (h 0)), (0, .ref b)]) (kk : ∀ (u' v' : gU) (H : Heap) (locs : List Loc), LR u' v' → lWd D h d h' d' s H locs u' v' → W p l e room_1 s m #[Value.ref b] below meth c H locs cells slots Q (F0 m 493 ls [])) : W p l e room_1 s m #[Value.ref b] below meth c H locs cells slots Q (F0 m 184 ls []) := by
  have hm := LR_mI hR
  refine lv_aload_n S.1 S.2.1 dL_law_184 rfl (lv_at hl 2 rfl) ?_
  refine lv_aload_n S.1 S.2.1 dL_law_185 rfl (lv_at hl 3 rfl) ?_
  refine lv_iload_n S.1 S.2.1 dL_law_186 rfl (lv_at hl 0 rfl) ?_
  refine lv_iconst (v := nI 1) S.1 S.2.1 dL_law_187 (by decide) ?_
  refine n_iadd S dL_law_188 ?_
  refine l_sld S hX hbl hw (by omega) hL dL_law_189 ?_
  refine lx_call (As := [.int (xs (i + 1))]) (rest := []) S hw (mX_erase l D h d u (xs (i + 1)) hR.1) (cw_L_X0_erase S.2.2.2.2 ⟨by decide, by decide⟩) rfl hl.1 rfl (Nat.le_of_ble_eq_true rfl) dL_law_190 hcs (fun r1 u1 H locs hp1 hw => ?_)
  refine lv_aload_n S.1 S.2.1 dL_law_193 rfl (lv_at hl 1 rfl) ?_
  refine lv_aload_n S.1 S.2.1 dL_law_194 rfl (lv_at hl 3 rfl) ?_
  refine lv_iload_n S.1 S.2.1 dL_law_195 rfl (lv_at hl 0 rfl) ?_
  refine lv_iconst (v := nI 1) S.1 S.2.1 dL_law_196 (by decide) ?_
  refine n_iadd S dL_law_197 ?_
  refine l_sld S hX hbl hw (by omega) hL dL_law_198 ?_
  refine lm_call (As := [.int (xs (i + 1))]) (rest := [.int r1]) S hw (mM_erase l D h' d' v (xs (i + 1))) (cw_L_X1_erase S.2.2.2.2 ⟨by decide, by decide⟩) rfl hl.1 rfl (Nat.le_of_ble_eq_true rfl) dL_law_199 hcs (fun r2 v1 H locs hp2 hw => ?_)
  exact lv_icmp_eq (tgt := 493) S.1 S.2.1 dL_law_202 (by decide) (fun _ => kk u1 v1 _ _ (lr_erase hR hp1 hp2).2 hw) (fun q => absurd (lr_erase hR hp1 hp2).1 q)
set_option maxHeartbeats 4000000 in
theorem law_c3 {p : Program} {l : Launch} {e : Env} {s : State} {m : MethodId} {below : List Frame} {meth : Method} {c : Code} {cells slots : Nat} {Q : State → Prop} {b L : Nat} {xs : Nat → Int32} {D : va_G} {h h' : Nat → Nat} {d d' : Nat → ClassId} (S : CallFix p m c cL_law 4 s #[Value.ref b] lw_all "PhraseIndexLaw") (hX : va_X b L xs s s.heap) (hbl : b < s.heap.size) (hL : L ≤ 256) (hcs : cells ≤ room_1.cells ∧ slots ≤ room_1.slots) {i : Nat} (hi : i + 4 ≤ L) {u v : gU} {H : Heap} {locs : List Loc} {ls : Array Slot} (hR : LR u v) (hw : lWd D h d h' d' s H locs u v) (hl : lv_has ls 4 [(3, .int (nI i)), (2, .ref (h' 0)), (1, .ref (h 0)), (0, .ref b)]) (kk : ∀ (u' v' : gU) (H : Heap) (locs : List Loc), LR u' v' → lWd D h d h' d' s H locs u' v' → W p l e room_1 s m #[Value.ref b] below meth c H locs cells slots Q (F0 m 493 ls [])) : W p l e room_1 s m #[Value.ref b] below meth c H locs cells slots Q (F0 m 207 ls []) := by
  have hm := LR_mI hR
  refine lv_aload_n S.1 S.2.1 dL_law_207 rfl (lv_at hl 2 rfl) ?_
  refine lv_aload_n S.1 S.2.1 dL_law_208 rfl (lv_at hl 3 rfl) ?_
  refine lv_iload_n S.1 S.2.1 dL_law_209 rfl (lv_at hl 0 rfl) ?_
  refine lv_iconst (v := nI 1) S.1 S.2.1 dL_law_210 (by decide) ?_
  refine n_iadd S dL_law_211 ?_
  refine l_sld S hX hbl hw (by omega) hL dL_law_212 ?_
  refine lx_call (As := [.int (xs (i + 1))]) (rest := []) S hw (mX_length l D h d u (xs (i + 1))) (cw_L_X0_length S.2.2.2.2 ⟨by decide, by decide⟩) rfl hl.1 rfl (Nat.le_of_ble_eq_true rfl) dL_law_213 hcs (fun r1 u1 H locs hp1 hw => ?_)
  refine lv_aload_n S.1 S.2.1 dL_law_216 rfl (lv_at hl 1 rfl) ?_
  refine lv_aload_n S.1 S.2.1 dL_law_217 rfl (lv_at hl 3 rfl) ?_
  refine lv_iload_n S.1 S.2.1 dL_law_218 rfl (lv_at hl 0 rfl) ?_
  refine lv_iconst (v := nI 1) S.1 S.2.1 dL_law_219 (by decide) ?_
  refine n_iadd S dL_law_220 ?_
  refine l_sld S hX hbl hw (by omega) hL dL_law_221 ?_
  refine lm_call (As := [.int (xs (i + 1))]) (rest := [.int r1]) S hw (mM_length l D h' d' v (xs (i + 1))) (cw_L_X1_length S.2.2.2.2 ⟨by decide, by decide⟩) rfl hl.1 rfl (Nat.le_of_ble_eq_true rfl) dL_law_222 hcs (fun r2 v1 H locs hp2 hw => ?_)
  exact lv_icmp_eq (tgt := 493) S.1 S.2.1 dL_law_225 (by decide) (fun _ => kk u1 v1 _ _ (lr_length hR hp1 hp2).2 hw) (fun q => absurd (lr_length hR hp1 hp2).1 q)
set_option maxHeartbeats 4000000 in
theorem law_c4 {p : Program} {l : Launch} {e : Env} {s : State} {m : MethodId} {below : List Frame} {meth : Method} {c : Code} {cells slots : Nat} {Q : State → Prop} {b L : Nat} {xs : Nat → Int32} {D : va_G} {h h' : Nat → Nat} {d d' : Nat → ClassId} (S : CallFix p m c cL_law 4 s #[Value.ref b] lw_all "PhraseIndexLaw") (hX : va_X b L xs s s.heap) (hbl : b < s.heap.size) (hL : L ≤ 256) (hcs : cells ≤ room_1.cells ∧ slots ≤ room_1.slots) {i : Nat} (hi : i + 4 ≤ L) {u v : gU} {H : Heap} {locs : List Loc} {ls : Array Slot} (hR : LR u v) (hw : lWd D h d h' d' s H locs u v) (hl : lv_has ls 4 [(3, .int (nI i)), (2, .ref (h' 0)), (1, .ref (h 0)), (0, .ref b)]) (kk : ∀ (u' v' : gU) (H : Heap) (locs : List Loc), LR u' v' → lWd D h d h' d' s H locs u' v' → W p l e room_1 s m #[Value.ref b] below meth c H locs cells slots Q (F0 m 493 ls [])) : W p l e room_1 s m #[Value.ref b] below meth c H locs cells slots Q (F0 m 230 ls []) := by
  have hm := LR_mI hR
  refine lv_aload_n S.1 S.2.1 dL_law_230 rfl (lv_at hl 2 rfl) ?_
  refine lv_aload_n S.1 S.2.1 dL_law_231 rfl (lv_at hl 3 rfl) ?_
  refine lv_iload_n S.1 S.2.1 dL_law_232 rfl (lv_at hl 0 rfl) ?_
  refine lv_iconst (v := nI 1) S.1 S.2.1 dL_law_233 (by decide) ?_
  refine n_iadd S dL_law_234 ?_
  refine l_sld S hX hbl hw (by omega) hL dL_law_235 ?_
  refine lx_call (As := [.int (xs (i + 1))]) (rest := []) S hw (mX_ask l D h d u (xs (i + 1)) hR.1) (cw_L_X0_ask S.2.2.2.2 ⟨by decide, by decide⟩) rfl hl.1 rfl (Nat.le_of_ble_eq_true rfl) dL_law_236 hcs (fun r1 u1 H locs hp1 hw => ?_)
  refine lv_aload_n S.1 S.2.1 dL_law_239 rfl (lv_at hl 1 rfl) ?_
  refine lv_aload_n S.1 S.2.1 dL_law_240 rfl (lv_at hl 3 rfl) ?_
  refine lv_iload_n S.1 S.2.1 dL_law_241 rfl (lv_at hl 0 rfl) ?_
  refine lv_iconst (v := nI 1) S.1 S.2.1 dL_law_242 (by decide) ?_
  refine n_iadd S dL_law_243 ?_
  refine l_sld S hX hbl hw (by omega) hL dL_law_244 ?_
  refine lm_call (As := [.int (xs (i + 1))]) (rest := [.int r1]) S hw (mM_ask l D h' d' v (xs (i + 1)) hm) (cw_L_X1_ask S.2.2.2.2 ⟨by decide, by decide⟩) rfl hl.1 rfl (Nat.le_of_ble_eq_true rfl) dL_law_245 hcs (fun r2 v1 H locs hp2 hw => ?_)
  exact lv_icmp_eq (tgt := 493) S.1 S.2.1 dL_law_248 (by decide) (fun _ => kk u1 v1 _ _ (lr_ask hR hp1 hp2).2 hw) (fun q => absurd (lr_ask hR hp1 hp2).1 q)
set_option maxHeartbeats 4000000 in
theorem law_c5 {p : Program} {l : Launch} {e : Env} {s : State} {m : MethodId} {below : List Frame} {meth : Method} {c : Code} {cells slots : Nat} {Q : State → Prop} {b L : Nat} {xs : Nat → Int32} {D : va_G} {h h' : Nat → Nat} {d d' : Nat → ClassId} (S : CallFix p m c cL_law 4 s #[Value.ref b] lw_all "PhraseIndexLaw") (hX : va_X b L xs s s.heap) (hbl : b < s.heap.size) (hL : L ≤ 256) (hcs : cells ≤ room_1.cells ∧ slots ≤ room_1.slots) {i : Nat} (hi : i + 4 ≤ L) {u v : gU} {H : Heap} {locs : List Loc} {ls : Array Slot} (hR : LR u v) (hw : lWd D h d h' d' s H locs u v) (hl : lv_has ls 4 [(3, .int (nI i)), (2, .ref (h' 0)), (1, .ref (h 0)), (0, .ref b)]) (kk : ∀ (u' v' : gU) (H : Heap) (locs : List Loc), LR u' v' → lWd D h d h' d' s H locs u' v' → W p l e room_1 s m #[Value.ref b] below meth c H locs cells slots Q (F0 m 493 ls [])) : W p l e room_1 s m #[Value.ref b] below meth c H locs cells slots Q (F0 m 253 ls []) := by
  have hm := LR_mI hR
  refine lv_aload_n S.1 S.2.1 dL_law_253 rfl (lv_at hl 2 rfl) ?_
  refine lx_call (As := []) (rest := []) S hw (mX_unask l D h d u hR.1.2.2.2.1) (cw_L_X0_unask S.2.2.2.2 ⟨by decide, by decide⟩) rfl hl.1 rfl (Nat.le_of_ble_eq_true rfl) dL_law_254 hcs (fun r1 u1 H locs hp1 hw => ?_)
  refine lv_aload_n S.1 S.2.1 dL_law_257 rfl (lv_at hl 1 rfl) ?_
  refine lm_call (As := []) (rest := [.int r1]) S hw (mM_unask l D h' d' v hm.2.2.1) (cw_L_X1_unask S.2.2.2.2 ⟨by decide, by decide⟩) rfl hl.1 rfl (Nat.le_of_ble_eq_true rfl) dL_law_258 hcs (fun r2 v1 H locs hp2 hw => ?_)
  exact lv_icmp_eq (tgt := 493) S.1 S.2.1 dL_law_261 (by decide) (fun _ => kk u1 v1 _ _ (lr_unask hR hp1 hp2).2 hw) (fun q => absurd (lr_unask hR hp1 hp2).1 q)
set_option maxHeartbeats 4000000 in
theorem law_c6 {p : Program} {l : Launch} {e : Env} {s : State} {m : MethodId} {below : List Frame} {meth : Method} {c : Code} {cells slots : Nat} {Q : State → Prop} {b L : Nat} {xs : Nat → Int32} {D : va_G} {h h' : Nat → Nat} {d d' : Nat → ClassId} (S : CallFix p m c cL_law 4 s #[Value.ref b] lw_all "PhraseIndexLaw") (hX : va_X b L xs s s.heap) (hbl : b < s.heap.size) (hL : L ≤ 256) (hcs : cells ≤ room_1.cells ∧ slots ≤ room_1.slots) {i : Nat} (hi : i + 4 ≤ L) {u v : gU} {H : Heap} {locs : List Loc} {ls : Array Slot} (hR : LR u v) (hw : lWd D h d h' d' s H locs u v) (hl : lv_has ls 4 [(3, .int (nI i)), (2, .ref (h' 0)), (1, .ref (h 0)), (0, .ref b)]) (kk : ∀ (u' v' : gU) (H : Heap) (locs : List Loc), LR u' v' → lWd D h d h' d' s H locs u' v' → W p l e room_1 s m #[Value.ref b] below meth c H locs cells slots Q (F0 m 493 ls [])) : W p l e room_1 s m #[Value.ref b] below meth c H locs cells slots Q (F0 m 266 ls []) := by
  have hm := LR_mI hR
  refine lv_aload_n S.1 S.2.1 dL_law_266 rfl (lv_at hl 2 rfl) ?_
  refine lx_call (As := []) (rest := []) S hw (mX_complete l D h d u hR.1.2.2.2) (cw_L_X0_complete S.2.2.2.2 ⟨by decide, by decide⟩) rfl hl.1 rfl (Nat.le_of_ble_eq_true rfl) dL_law_267 hcs (fun r1 u1 H locs hp1 hw => ?_)
  refine lv_aload_n S.1 S.2.1 dL_law_270 rfl (lv_at hl 1 rfl) ?_
  refine lm_call (As := []) (rest := [.int r1]) S hw (mM_complete l D h' d' v hm.2.2) (cw_L_X1_complete S.2.2.2.2 ⟨by decide, by decide⟩) rfl hl.1 rfl (Nat.le_of_ble_eq_true rfl) dL_law_271 hcs (fun r2 v1 H locs hp2 hw => ?_)
  exact lv_icmp_eq (tgt := 493) S.1 S.2.1 dL_law_274 (by decide) (fun _ => kk u1 v1 _ _ (lr_complete hR hp1 hp2).2 hw) (fun q => absurd (lr_complete hR hp1 hp2).1 q)
set_option maxHeartbeats 4000000 in
theorem law_c7 {p : Program} {l : Launch} {e : Env} {s : State} {m : MethodId} {below : List Frame} {meth : Method} {c : Code} {cells slots : Nat} {Q : State → Prop} {b L : Nat} {xs : Nat → Int32} {D : va_G} {h h' : Nat → Nat} {d d' : Nat → ClassId} (S : CallFix p m c cL_law 4 s #[Value.ref b] lw_all "PhraseIndexLaw") (hX : va_X b L xs s s.heap) (hbl : b < s.heap.size) (hL : L ≤ 256) (hcs : cells ≤ room_1.cells ∧ slots ≤ room_1.slots) {i : Nat} (hi : i + 4 ≤ L) {u v : gU} {H : Heap} {locs : List Loc} {ls : Array Slot} (hR : LR u v) (hw : lWd D h d h' d' s H locs u v) (hl : lv_has ls 4 [(3, .int (nI i)), (2, .ref (h' 0)), (1, .ref (h 0)), (0, .ref b)]) (kk : ∀ (u' v' : gU) (H : Heap) (locs : List Loc), LR u' v' → lWd D h d h' d' s H locs u' v' → W p l e room_1 s m #[Value.ref b] below meth c H locs cells slots Q (F0 m 493 ls [])) : W p l e room_1 s m #[Value.ref b] below meth c H locs cells slots Q (F0 m 279 ls []) := by
  have hm := LR_mI hR
  refine lv_aload_n S.1 S.2.1 dL_law_279 rfl (lv_at hl 2 rfl) ?_
  refine lv_aload_n S.1 S.2.1 dL_law_280 rfl (lv_at hl 3 rfl) ?_
  refine lv_iload_n S.1 S.2.1 dL_law_281 rfl (lv_at hl 0 rfl) ?_
  refine lv_iconst (v := nI 1) S.1 S.2.1 dL_law_282 (by decide) ?_
  refine n_iadd S dL_law_283 ?_
  refine l_sld S hX hbl hw (by omega) hL dL_law_284 ?_
  refine lx_call (As := [.int (xs (i + 1))]) (rest := []) S hw (mX_holds l D h d u (xs (i + 1)) hR.1) (cw_L_X0_holds S.2.2.2.2 ⟨by decide, by decide⟩) rfl hl.1 rfl (Nat.le_of_ble_eq_true rfl) dL_law_285 hcs (fun r1 u1 H locs hp1 hw => ?_)
  refine lv_aload_n S.1 S.2.1 dL_law_288 rfl (lv_at hl 1 rfl) ?_
  refine lv_aload_n S.1 S.2.1 dL_law_289 rfl (lv_at hl 3 rfl) ?_
  refine lv_iload_n S.1 S.2.1 dL_law_290 rfl (lv_at hl 0 rfl) ?_
  refine lv_iconst (v := nI 1) S.1 S.2.1 dL_law_291 (by decide) ?_
  refine n_iadd S dL_law_292 ?_
  refine l_sld S hX hbl hw (by omega) hL dL_law_293 ?_
  refine lm_call (As := [.int (xs (i + 1))]) (rest := [.int r1]) S hw (mM_holds l D h' d' v (xs (i + 1)) hm) (cw_L_X1_holds S.2.2.2.2 ⟨by decide, by decide⟩) rfl hl.1 rfl (Nat.le_of_ble_eq_true rfl) dL_law_294 hcs (fun r2 v1 H locs hp2 hw => ?_)
  exact lv_icmp_eq (tgt := 493) S.1 S.2.1 dL_law_297 (by decide) (fun _ => kk u1 v1 _ _ (lr_holds hR hp1 hp2).2 hw) (fun q => absurd (lr_holds hR hp1 hp2).1 q)
set_option maxHeartbeats 4000000 in
theorem law_c8 {p : Program} {l : Launch} {e : Env} {s : State} {m : MethodId} {below : List Frame} {meth : Method} {c : Code} {cells slots : Nat} {Q : State → Prop} {b L : Nat} {xs : Nat → Int32} {D : va_G} {h h' : Nat → Nat} {d d' : Nat → ClassId} (S : CallFix p m c cL_law 4 s #[Value.ref b] lw_all "PhraseIndexLaw") (hX : va_X b L xs s s.heap) (hbl : b < s.heap.size) (hL : L ≤ 256) (hcs : cells ≤ room_1.cells ∧ slots ≤ room_1.slots) {i : Nat} (hi : i + 4 ≤ L) {u v : gU} {H : Heap} {locs : List Loc} {ls : Array Slot} (hR : LR u v) (hw : lWd D h d h' d' s H locs u v) (hl : lv_has ls 4 [(3, .int (nI i)), (2, .ref (h' 0)), (1, .ref (h 0)), (0, .ref b)]) (kk : ∀ (u' v' : gU) (H : Heap) (locs : List Loc), LR u' v' → lWd D h d h' d' s H locs u' v' → W p l e room_1 s m #[Value.ref b] below meth c H locs cells slots Q (F0 m 493 ls [])) : W p l e room_1 s m #[Value.ref b] below meth c H locs cells slots Q (F0 m 302 ls []) := by
  have hm := LR_mI hR
  refine lv_aload_n S.1 S.2.1 dL_law_302 rfl (lv_at hl 2 rfl) ?_
  refine lx_call (As := []) (rest := []) S hw (mX_matching l D h d u hR.1) (cw_L_X0_matching S.2.2.2.2 ⟨by decide, by decide⟩) rfl hl.1 rfl (Nat.le_of_ble_eq_true rfl) dL_law_303 hcs (fun r1 u1 H locs hp1 hw => ?_)
  refine lv_aload_n S.1 S.2.1 dL_law_306 rfl (lv_at hl 1 rfl) ?_
  refine lm_call (As := []) (rest := [.int r1]) S hw (mM_matching l D h' d' v hm) (cw_L_X1_matching S.2.2.2.2 ⟨by decide, by decide⟩) rfl hl.1 rfl (Nat.le_of_ble_eq_true rfl) dL_law_307 hcs (fun r2 v1 H locs hp2 hw => ?_)
  exact lv_icmp_eq (tgt := 493) S.1 S.2.1 dL_law_310 (by decide) (fun _ => kk u1 v1 _ _ (lr_matching hR hp1 hp2).2 hw) (fun q => absurd (lr_matching hR hp1 hp2).1 q)
set_option maxHeartbeats 4000000 in
theorem law_c9 {p : Program} {l : Launch} {e : Env} {s : State} {m : MethodId} {below : List Frame} {meth : Method} {c : Code} {cells slots : Nat} {Q : State → Prop} {b L : Nat} {xs : Nat → Int32} {D : va_G} {h h' : Nat → Nat} {d d' : Nat → ClassId} (S : CallFix p m c cL_law 4 s #[Value.ref b] lw_all "PhraseIndexLaw") (hX : va_X b L xs s s.heap) (hbl : b < s.heap.size) (hL : L ≤ 256) (hcs : cells ≤ room_1.cells ∧ slots ≤ room_1.slots) {i : Nat} (hi : i + 4 ≤ L) {u v : gU} {H : Heap} {locs : List Loc} {ls : Array Slot} (hR : LR u v) (hw : lWd D h d h' d' s H locs u v) (hl : lv_has ls 4 [(3, .int (nI i)), (2, .ref (h' 0)), (1, .ref (h 0)), (0, .ref b)]) (kk : ∀ (u' v' : gU) (H : Heap) (locs : List Loc), LR u' v' → lWd D h d h' d' s H locs u' v' → W p l e room_1 s m #[Value.ref b] below meth c H locs cells slots Q (F0 m 493 ls [])) : W p l e room_1 s m #[Value.ref b] below meth c H locs cells slots Q (F0 m 315 ls []) := by
  have hm := LR_mI hR
  refine lv_aload_n S.1 S.2.1 dL_law_315 rfl (lv_at hl 2 rfl) ?_
  refine lv_aload_n S.1 S.2.1 dL_law_316 rfl (lv_at hl 3 rfl) ?_
  refine lv_iload_n S.1 S.2.1 dL_law_317 rfl (lv_at hl 0 rfl) ?_
  refine lv_iconst (v := nI 1) S.1 S.2.1 dL_law_318 (by decide) ?_
  refine n_iadd S dL_law_319 ?_
  refine l_sld S hX hbl hw (by omega) hL dL_law_320 ?_
  refine lv_aload_n S.1 S.2.1 dL_law_321 rfl (lv_at hl 3 rfl) ?_
  refine lv_iload_n S.1 S.2.1 dL_law_322 rfl (lv_at hl 0 rfl) ?_
  refine lv_iconst (v := nI 2) S.1 S.2.1 dL_law_323 (by decide) ?_
  refine n_iadd S dL_law_324 ?_
  refine l_sld S hX hbl hw (by omega) hL dL_law_325 ?_
  refine lx_call (As := [.int (xs (i + 1)), .int (xs (i + 2))]) (rest := []) S hw (mX_spans l D h d u (xs (i + 1)) (xs (i + 2)) hR.1) (cw_L_X0_spans S.2.2.2.2 ⟨by decide, by decide⟩) rfl hl.1 rfl (Nat.le_of_ble_eq_true rfl) dL_law_326 hcs (fun r1 u1 H locs hp1 hw => ?_)
  refine lv_aload_n S.1 S.2.1 dL_law_329 rfl (lv_at hl 1 rfl) ?_
  refine lv_aload_n S.1 S.2.1 dL_law_330 rfl (lv_at hl 3 rfl) ?_
  refine lv_iload_n S.1 S.2.1 dL_law_331 rfl (lv_at hl 0 rfl) ?_
  refine lv_iconst (v := nI 1) S.1 S.2.1 dL_law_332 (by decide) ?_
  refine n_iadd S dL_law_333 ?_
  refine l_sld S hX hbl hw (by omega) hL dL_law_334 ?_
  refine lv_aload_n S.1 S.2.1 dL_law_335 rfl (lv_at hl 3 rfl) ?_
  refine lv_iload_n S.1 S.2.1 dL_law_336 rfl (lv_at hl 0 rfl) ?_
  refine lv_iconst (v := nI 2) S.1 S.2.1 dL_law_337 (by decide) ?_
  refine n_iadd S dL_law_338 ?_
  refine l_sld S hX hbl hw (by omega) hL dL_law_339 ?_
  refine lm_call (As := [.int (xs (i + 1)), .int (xs (i + 2))]) (rest := [.int r1]) S hw (mM_spans l D h' d' v (xs (i + 1)) (xs (i + 2)) hm) (cw_L_X1_spans S.2.2.2.2 ⟨by decide, by decide⟩) rfl hl.1 rfl (Nat.le_of_ble_eq_true rfl) dL_law_340 hcs (fun r2 v1 H locs hp2 hw => ?_)
  exact lv_icmp_eq (tgt := 493) S.1 S.2.1 dL_law_343 (by decide) (fun _ => kk u1 v1 _ _ (lr_spans hR hp1 hp2).2 hw) (fun q => absurd (lr_spans hR hp1 hp2).1 q)
set_option maxHeartbeats 4000000 in
theorem law_c10 {p : Program} {l : Launch} {e : Env} {s : State} {m : MethodId} {below : List Frame} {meth : Method} {c : Code} {cells slots : Nat} {Q : State → Prop} {b L : Nat} {xs : Nat → Int32} {D : va_G} {h h' : Nat → Nat} {d d' : Nat → ClassId} (S : CallFix p m c cL_law 4 s #[Value.ref b] lw_all "PhraseIndexLaw") (hX : va_X b L xs s s.heap) (hbl : b < s.heap.size) (hL : L ≤ 256) (hcs : cells ≤ room_1.cells ∧ slots ≤ room_1.slots) {i : Nat} (hi : i + 4 ≤ L) {u v : gU} {H : Heap} {locs : List Loc} {ls : Array Slot} (hR : LR u v) (hw : lWd D h d h' d' s H locs u v) (hl : lv_has ls 4 [(3, .int (nI i)), (2, .ref (h' 0)), (1, .ref (h 0)), (0, .ref b)]) (kk : ∀ (u' v' : gU) (H : Heap) (locs : List Loc), LR u' v' → lWd D h d h' d' s H locs u' v' → W p l e room_1 s m #[Value.ref b] below meth c H locs cells slots Q (F0 m 493 ls [])) : W p l e room_1 s m #[Value.ref b] below meth c H locs cells slots Q (F0 m 348 ls []) := by
  have hm := LR_mI hR
  refine lv_aload_n S.1 S.2.1 dL_law_348 rfl (lv_at hl 2 rfl) ?_
  refine lv_aload_n S.1 S.2.1 dL_law_349 rfl (lv_at hl 3 rfl) ?_
  refine lv_iload_n S.1 S.2.1 dL_law_350 rfl (lv_at hl 0 rfl) ?_
  refine lv_iconst (v := nI 1) S.1 S.2.1 dL_law_351 (by decide) ?_
  refine n_iadd S dL_law_352 ?_
  refine l_sld S hX hbl hw (by omega) hL dL_law_353 ?_
  refine lv_aload_n S.1 S.2.1 dL_law_354 rfl (lv_at hl 3 rfl) ?_
  refine lv_iload_n S.1 S.2.1 dL_law_355 rfl (lv_at hl 0 rfl) ?_
  refine lv_iconst (v := nI 2) S.1 S.2.1 dL_law_356 (by decide) ?_
  refine n_iadd S dL_law_357 ?_
  refine l_sld S hX hbl hw (by omega) hL dL_law_358 ?_
  refine lv_aload_n S.1 S.2.1 dL_law_359 rfl (lv_at hl 3 rfl) ?_
  refine lv_iload_n S.1 S.2.1 dL_law_360 rfl (lv_at hl 0 rfl) ?_
  refine lv_iconst (v := nI 3) S.1 S.2.1 dL_law_361 (by decide) ?_
  refine n_iadd S dL_law_362 ?_
  refine l_sld S hX hbl hw (by omega) hL dL_law_363 ?_
  refine lx_call (As := [.int (xs (i + 1)), .int (xs (i + 2)), .int (xs (i + 3))]) (rest := []) S hw (mX_begins l D h d u (xs (i + 1)) (xs (i + 2)) (xs (i + 3)) hR.1) (cw_L_X0_begins S.2.2.2.2 ⟨by decide, by decide⟩) rfl hl.1 rfl (Nat.le_of_ble_eq_true rfl) dL_law_364 hcs (fun r1 u1 H locs hp1 hw => ?_)
  refine lv_aload_n S.1 S.2.1 dL_law_367 rfl (lv_at hl 1 rfl) ?_
  refine lv_aload_n S.1 S.2.1 dL_law_368 rfl (lv_at hl 3 rfl) ?_
  refine lv_iload_n S.1 S.2.1 dL_law_369 rfl (lv_at hl 0 rfl) ?_
  refine lv_iconst (v := nI 1) S.1 S.2.1 dL_law_370 (by decide) ?_
  refine n_iadd S dL_law_371 ?_
  refine l_sld S hX hbl hw (by omega) hL dL_law_372 ?_
  refine lv_aload_n S.1 S.2.1 dL_law_373 rfl (lv_at hl 3 rfl) ?_
  refine lv_iload_n S.1 S.2.1 dL_law_374 rfl (lv_at hl 0 rfl) ?_
  refine lv_iconst (v := nI 2) S.1 S.2.1 dL_law_375 (by decide) ?_
  refine n_iadd S dL_law_376 ?_
  refine l_sld S hX hbl hw (by omega) hL dL_law_377 ?_
  refine lv_aload_n S.1 S.2.1 dL_law_378 rfl (lv_at hl 3 rfl) ?_
  refine lv_iload_n S.1 S.2.1 dL_law_379 rfl (lv_at hl 0 rfl) ?_
  refine lv_iconst (v := nI 3) S.1 S.2.1 dL_law_380 (by decide) ?_
  refine n_iadd S dL_law_381 ?_
  refine l_sld S hX hbl hw (by omega) hL dL_law_382 ?_
  refine lm_call (As := [.int (xs (i + 1)), .int (xs (i + 2)), .int (xs (i + 3))]) (rest := [.int r1]) S hw (mM_begins l D h' d' v (xs (i + 1)) (xs (i + 2)) (xs (i + 3)) hm) (cw_L_X1_begins S.2.2.2.2 ⟨by decide, by decide⟩) rfl hl.1 rfl (Nat.le_of_ble_eq_true rfl) dL_law_383 hcs (fun r2 v1 H locs hp2 hw => ?_)
  exact lv_icmp_eq (tgt := 493) S.1 S.2.1 dL_law_386 (by decide) (fun _ => kk u1 v1 _ _ (lr_begins hR hp1 hp2).2 hw) (fun q => absurd (lr_begins hR hp1 hp2).1 q)
set_option maxHeartbeats 4000000 in
theorem law_c11 {p : Program} {l : Launch} {e : Env} {s : State} {m : MethodId} {below : List Frame} {meth : Method} {c : Code} {cells slots : Nat} {Q : State → Prop} {b L : Nat} {xs : Nat → Int32} {D : va_G} {h h' : Nat → Nat} {d d' : Nat → ClassId} (S : CallFix p m c cL_law 4 s #[Value.ref b] lw_all "PhraseIndexLaw") (hX : va_X b L xs s s.heap) (hbl : b < s.heap.size) (hL : L ≤ 256) (hcs : cells ≤ room_1.cells ∧ slots ≤ room_1.slots) {i : Nat} (hi : i + 4 ≤ L) {u v : gU} {H : Heap} {locs : List Loc} {ls : Array Slot} (hR : LR u v) (hw : lWd D h d h' d' s H locs u v) (hl : lv_has ls 4 [(3, .int (nI i)), (2, .ref (h' 0)), (1, .ref (h 0)), (0, .ref b)]) (kk : ∀ (u' v' : gU) (H : Heap) (locs : List Loc), LR u' v' → lWd D h d h' d' s H locs u' v' → W p l e room_1 s m #[Value.ref b] below meth c H locs cells slots Q (F0 m 493 ls [])) : W p l e room_1 s m #[Value.ref b] below meth c H locs cells slots Q (F0 m 391 ls []) := by
  have hm := LR_mI hR
  refine lv_aload_n S.1 S.2.1 dL_law_391 rfl (lv_at hl 2 rfl) ?_
  refine lv_aload_n S.1 S.2.1 dL_law_392 rfl (lv_at hl 3 rfl) ?_
  refine lv_iload_n S.1 S.2.1 dL_law_393 rfl (lv_at hl 0 rfl) ?_
  refine lv_iconst (v := nI 1) S.1 S.2.1 dL_law_394 (by decide) ?_
  refine n_iadd S dL_law_395 ?_
  refine l_sld S hX hbl hw (by omega) hL dL_law_396 ?_
  refine lv_aload_n S.1 S.2.1 dL_law_397 rfl (lv_at hl 3 rfl) ?_
  refine lv_iload_n S.1 S.2.1 dL_law_398 rfl (lv_at hl 0 rfl) ?_
  refine lv_iconst (v := nI 2) S.1 S.2.1 dL_law_399 (by decide) ?_
  refine n_iadd S dL_law_400 ?_
  refine l_sld S hX hbl hw (by omega) hL dL_law_401 ?_
  refine lv_aload_n S.1 S.2.1 dL_law_402 rfl (lv_at hl 3 rfl) ?_
  refine lv_iload_n S.1 S.2.1 dL_law_403 rfl (lv_at hl 0 rfl) ?_
  refine lv_iconst (v := nI 3) S.1 S.2.1 dL_law_404 (by decide) ?_
  refine n_iadd S dL_law_405 ?_
  refine l_sld S hX hbl hw (by omega) hL dL_law_406 ?_
  refine lx_call (As := [.int (xs (i + 1)), .int (xs (i + 2)), .int (xs (i + 3))]) (rest := []) S hw (mX_ends l D h d u (xs (i + 1)) (xs (i + 2)) (xs (i + 3)) hR.1) (cw_L_X0_ends S.2.2.2.2 ⟨by decide, by decide⟩) rfl hl.1 rfl (Nat.le_of_ble_eq_true rfl) dL_law_407 hcs (fun r1 u1 H locs hp1 hw => ?_)
  refine lv_aload_n S.1 S.2.1 dL_law_410 rfl (lv_at hl 1 rfl) ?_
  refine lv_aload_n S.1 S.2.1 dL_law_411 rfl (lv_at hl 3 rfl) ?_
  refine lv_iload_n S.1 S.2.1 dL_law_412 rfl (lv_at hl 0 rfl) ?_
  refine lv_iconst (v := nI 1) S.1 S.2.1 dL_law_413 (by decide) ?_
  refine n_iadd S dL_law_414 ?_
  refine l_sld S hX hbl hw (by omega) hL dL_law_415 ?_
  refine lv_aload_n S.1 S.2.1 dL_law_416 rfl (lv_at hl 3 rfl) ?_
  refine lv_iload_n S.1 S.2.1 dL_law_417 rfl (lv_at hl 0 rfl) ?_
  refine lv_iconst (v := nI 2) S.1 S.2.1 dL_law_418 (by decide) ?_
  refine n_iadd S dL_law_419 ?_
  refine l_sld S hX hbl hw (by omega) hL dL_law_420 ?_
  refine lv_aload_n S.1 S.2.1 dL_law_421 rfl (lv_at hl 3 rfl) ?_
  refine lv_iload_n S.1 S.2.1 dL_law_422 rfl (lv_at hl 0 rfl) ?_
  refine lv_iconst (v := nI 3) S.1 S.2.1 dL_law_423 (by decide) ?_
  refine n_iadd S dL_law_424 ?_
  refine l_sld S hX hbl hw (by omega) hL dL_law_425 ?_
  refine lm_call (As := [.int (xs (i + 1)), .int (xs (i + 2)), .int (xs (i + 3))]) (rest := [.int r1]) S hw (mM_ends l D h' d' v (xs (i + 1)) (xs (i + 2)) (xs (i + 3)) hm) (cw_L_X1_ends S.2.2.2.2 ⟨by decide, by decide⟩) rfl hl.1 rfl (Nat.le_of_ble_eq_true rfl) dL_law_426 hcs (fun r2 v1 H locs hp2 hw => ?_)
  exact lv_icmp_eq (tgt := 493) S.1 S.2.1 dL_law_429 (by decide) (fun _ => kk u1 v1 _ _ (lr_ends hR hp1 hp2).2 hw) (fun q => absurd (lr_ends hR hp1 hp2).1 q)
set_option maxHeartbeats 4000000 in
theorem law_c12 {p : Program} {l : Launch} {e : Env} {s : State} {m : MethodId} {below : List Frame} {meth : Method} {c : Code} {cells slots : Nat} {Q : State → Prop} {b L : Nat} {xs : Nat → Int32} {D : va_G} {h h' : Nat → Nat} {d d' : Nat → ClassId} (S : CallFix p m c cL_law 4 s #[Value.ref b] lw_all "PhraseIndexLaw") (hX : va_X b L xs s s.heap) (hbl : b < s.heap.size) (hL : L ≤ 256) (hcs : cells ≤ room_1.cells ∧ slots ≤ room_1.slots) {i : Nat} (hi : i + 4 ≤ L) {u v : gU} {H : Heap} {locs : List Loc} {ls : Array Slot} (hR : LR u v) (hw : lWd D h d h' d' s H locs u v) (hl : lv_has ls 4 [(3, .int (nI i)), (2, .ref (h' 0)), (1, .ref (h 0)), (0, .ref b)]) (kk : ∀ (u' v' : gU) (H : Heap) (locs : List Loc), LR u' v' → lWd D h d h' d' s H locs u' v' → W p l e room_1 s m #[Value.ref b] below meth c H locs cells slots Q (F0 m 493 ls [])) : W p l e room_1 s m #[Value.ref b] below meth c H locs cells slots Q (F0 m 434 ls []) := by
  have hm := LR_mI hR
  refine lv_aload_n S.1 S.2.1 dL_law_434 rfl (lv_at hl 2 rfl) ?_
  refine lv_aload_n S.1 S.2.1 dL_law_435 rfl (lv_at hl 3 rfl) ?_
  refine lv_iload_n S.1 S.2.1 dL_law_436 rfl (lv_at hl 0 rfl) ?_
  refine lv_iconst (v := nI 1) S.1 S.2.1 dL_law_437 (by decide) ?_
  refine n_iadd S dL_law_438 ?_
  refine l_sld S hX hbl hw (by omega) hL dL_law_439 ?_
  refine lx_call (As := [.int (xs (i + 1))]) (rest := []) S hw (mX_having l D h d u (xs (i + 1)) hR.1) (cw_L_X0_having S.2.2.2.2 ⟨by decide, by decide⟩) rfl hl.1 rfl (Nat.le_of_ble_eq_true rfl) dL_law_440 hcs (fun r1 u1 H locs hp1 hw => ?_)
  refine lv_aload_n S.1 S.2.1 dL_law_443 rfl (lv_at hl 1 rfl) ?_
  refine lv_aload_n S.1 S.2.1 dL_law_444 rfl (lv_at hl 3 rfl) ?_
  refine lv_iload_n S.1 S.2.1 dL_law_445 rfl (lv_at hl 0 rfl) ?_
  refine lv_iconst (v := nI 1) S.1 S.2.1 dL_law_446 (by decide) ?_
  refine n_iadd S dL_law_447 ?_
  refine l_sld S hX hbl hw (by omega) hL dL_law_448 ?_
  refine lm_call (As := [.int (xs (i + 1))]) (rest := [.int r1]) S hw (mM_having l D h' d' v (xs (i + 1)) hm) (cw_L_X1_having S.2.2.2.2 ⟨by decide, by decide⟩) rfl hl.1 rfl (Nat.le_of_ble_eq_true rfl) dL_law_449 hcs (fun r2 v1 H locs hp2 hw => ?_)
  exact lv_icmp_eq (tgt := 493) S.1 S.2.1 dL_law_452 (by decide) (fun _ => kk u1 v1 _ _ (lr_having hR hp1 hp2).2 hw) (fun q => absurd (lr_having hR hp1 hp2).1 q)
set_option maxHeartbeats 4000000 in
theorem law_c13 {p : Program} {l : Launch} {e : Env} {s : State} {m : MethodId} {below : List Frame} {meth : Method} {c : Code} {cells slots : Nat} {Q : State → Prop} {b L : Nat} {xs : Nat → Int32} {D : va_G} {h h' : Nat → Nat} {d d' : Nat → ClassId} (S : CallFix p m c cL_law 4 s #[Value.ref b] lw_all "PhraseIndexLaw") (hX : va_X b L xs s s.heap) (hbl : b < s.heap.size) (hL : L ≤ 256) (hcs : cells ≤ room_1.cells ∧ slots ≤ room_1.slots) {i : Nat} (hi : i + 4 ≤ L) {u v : gU} {H : Heap} {locs : List Loc} {ls : Array Slot} (hR : LR u v) (hw : lWd D h d h' d' s H locs u v) (hl : lv_has ls 4 [(3, .int (nI i)), (2, .ref (h' 0)), (1, .ref (h 0)), (0, .ref b)]) (kk : ∀ (u' v' : gU) (H : Heap) (locs : List Loc), LR u' v' → lWd D h d h' d' s H locs u' v' → W p l e room_1 s m #[Value.ref b] below meth c H locs cells slots Q (F0 m 493 ls [])) : W p l e room_1 s m #[Value.ref b] below meth c H locs cells slots Q (F0 m 457 ls []) := by
  have hm := LR_mI hR
  refine lv_aload_n S.1 S.2.1 dL_law_457 rfl (lv_at hl 2 rfl) ?_
  refine lv_aload_n S.1 S.2.1 dL_law_458 rfl (lv_at hl 3 rfl) ?_
  refine lv_iload_n S.1 S.2.1 dL_law_459 rfl (lv_at hl 0 rfl) ?_
  refine lv_iconst (v := nI 1) S.1 S.2.1 dL_law_460 (by decide) ?_
  refine n_iadd S dL_law_461 ?_
  refine l_sld S hX hbl hw (by omega) hL dL_law_462 ?_
  refine lx_call (As := [.int (xs (i + 1))]) (rest := []) S hw (mX_frequency l D h d u (xs (i + 1)) hR.1) (cw_L_X0_frequency S.2.2.2.2 ⟨by decide, by decide⟩) rfl hl.1 rfl (Nat.le_of_ble_eq_true rfl) dL_law_463 hcs (fun r1 u1 H locs hp1 hw => ?_)
  refine lv_aload_n S.1 S.2.1 dL_law_466 rfl (lv_at hl 1 rfl) ?_
  refine lv_aload_n S.1 S.2.1 dL_law_467 rfl (lv_at hl 3 rfl) ?_
  refine lv_iload_n S.1 S.2.1 dL_law_468 rfl (lv_at hl 0 rfl) ?_
  refine lv_iconst (v := nI 1) S.1 S.2.1 dL_law_469 (by decide) ?_
  refine n_iadd S dL_law_470 ?_
  refine l_sld S hX hbl hw (by omega) hL dL_law_471 ?_
  refine lm_call (As := [.int (xs (i + 1))]) (rest := [.int r1]) S hw (mM_frequency l D h' d' v (xs (i + 1)) hm) (cw_L_X1_frequency S.2.2.2.2 ⟨by decide, by decide⟩) rfl hl.1 rfl (Nat.le_of_ble_eq_true rfl) dL_law_472 hcs (fun r2 v1 H locs hp2 hw => ?_)
  exact lv_icmp_eq (tgt := 493) S.1 S.2.1 dL_law_475 (by decide) (fun _ => kk u1 v1 _ _ (lr_frequency hR hp1 hp2).2 hw) (fun q => absurd (lr_frequency hR hp1 hp2).1 q)
set_option maxHeartbeats 4000000 in
theorem law_c14 {p : Program} {l : Launch} {e : Env} {s : State} {m : MethodId} {below : List Frame} {meth : Method} {c : Code} {cells slots : Nat} {Q : State → Prop} {b L : Nat} {xs : Nat → Int32} {D : va_G} {h h' : Nat → Nat} {d d' : Nat → ClassId} (S : CallFix p m c cL_law 4 s #[Value.ref b] lw_all "PhraseIndexLaw") (hX : va_X b L xs s s.heap) (hbl : b < s.heap.size) (hL : L ≤ 256) (hcs : cells ≤ room_1.cells ∧ slots ≤ room_1.slots) {i : Nat} (hi : i + 4 ≤ L) {u v : gU} {H : Heap} {locs : List Loc} {ls : Array Slot} (hR : LR u v) (hw : lWd D h d h' d' s H locs u v) (hl : lv_has ls 4 [(3, .int (nI i)), (2, .ref (h' 0)), (1, .ref (h 0)), (0, .ref b)]) (kk : ∀ (u' v' : gU) (H : Heap) (locs : List Loc), LR u' v' → lWd D h d h' d' s H locs u' v' → W p l e room_1 s m #[Value.ref b] below meth c H locs cells slots Q (F0 m 493 ls [])) : W p l e room_1 s m #[Value.ref b] below meth c H locs cells slots Q (F0 m 480 ls []) := by
  have hm := LR_mI hR
  refine lv_aload_n S.1 S.2.1 dL_law_480 rfl (lv_at hl 2 rfl) ?_
  refine lx_call (As := []) (rest := []) S hw (mX_hasTokens l D h d u hR.1.2.2.2.1 hR.1.2.2.2.2.1) (cw_L_X0_hasTokens S.2.2.2.2 ⟨by decide, by decide⟩) rfl hl.1 rfl (Nat.le_of_ble_eq_true rfl) dL_law_481 hcs (fun r1 u1 H locs hp1 hw => ?_)
  refine lv_aload_n S.1 S.2.1 dL_law_484 rfl (lv_at hl 1 rfl) ?_
  refine lm_call (As := []) (rest := [.int r1]) S hw (mM_hasTokens l D h' d' v hm.2.2.1 hm.2.2.2.1) (cw_L_X1_hasTokens S.2.2.2.2 ⟨by decide, by decide⟩) rfl hl.1 rfl (Nat.le_of_ble_eq_true rfl) dL_law_485 hcs (fun r2 v1 H locs hp2 hw => ?_)
  exact lv_icmp_eq (tgt := 493) S.1 S.2.1 dL_law_488 (by decide) (fun _ => kk u1 v1 _ _ (lr_hasTokens hR hp1 hp2).2 hw) (fun q => absurd (lr_hasTokens hR hp1 hp2).1 q)
set_option maxHeartbeats 4000000 in
/-- the law's loop: i ints are read, the two objects are tied -/
theorem law_loop {p : Program} {l : Launch} {e : Env} {s : State} {m : MethodId} {below : List Frame} {meth : Method} {c : Code} {cells slots : Nat} {b L : Nat} {xs : Nat → Int32} {D : va_G} {h h' : Nat → Nat} {d d' : Nat → ClassId} (S : CallFix p m c cL_law 4 s #[Value.ref b] lw_all "PhraseIndexLaw") (hX : va_X b L xs s s.heap) (hbl : b < s.heap.size) (hL : L ≤ 256) (hr : meth.sig.returnType = ret) (hlocks : meth.locks = false) (hcs : cells ≤ room_1.cells ∧ slots ≤ room_1.slots) : ∀ (n i : Nat), i ≤ L → L + 5 ≤ i + n → ∀ (u v : gU) (H : Heap) (locs : List Loc) (ls : Array Slot), LR u v → lWd D h d h' d' s H locs u v → lv_has ls 4 [(3, .int (nI i)), (2, .ref (h' 0)), (1, .ref (h 0)), (0, .ref b)] → W p l e room_1 s m #[Value.ref b] below meth c H locs cells slots (lw_Z below #[Value.ref b] s) (F0 m 18 ls []) := by
  intro n
  induction n with
  | zero =>
    intro i h1 h2
    exfalso; omega
  | succ n ih =>
    intro i h1 h2 u v H locs ls hR hw hl
    refine lv_iload_n S.1 S.2.1 dL_law_18 rfl (lv_at hl 0 rfl) ?_
    refine lv_aload_n S.1 S.2.1 dL_law_19 rfl (lv_at hl 3 rfl) ?_
    refine l_len S hX hbl hw dL_law_20 ?_
    refine lv_iconst (v := nI 4) S.1 S.2.1 dL_law_21 (by decide) ?_
    refine lv_isub S.1 S.2.1 dL_law_22 ?_
    refine lv_icmp_gt (tgt := 499) S.1 S.2.1 dL_law_23 (by decide) (fun c23 => ?_) (fun c23 => ?_)
    · refine lv_iconst (v := 1) S.1 S.2.1 dL_law_499 (by decide) ?_
      refine va_forget hw.2.2.2.2.2 ?_
      refine W.widen (k := 600000) (n := 7290000) hcs.1 hcs.2 ?_
      exact lw_ret S.1 S.2.1 hr hlocks dL_law_500
    · have hi4 : i + 4 ≤ L := by
        refine Classical.byContradiction fun q => c23 ((l_cmp hL (by omega)).mpr (by omega))
      refine lv_aload_n S.1 S.2.1 dL_law_26 rfl (lv_at hl 3 rfl) ?_
      refine lv_iload_n S.1 S.2.1 dL_law_27 rfl (lv_at hl 0 rfl) ?_
      refine l_sld S hX hbl hw (by omega) hL dL_law_28 ?_
      refine lv_bipush (v := 15) S.1 S.2.1 dL_law_29 (by decide) ?_
      refine lv_iand S.1 S.2.1 dL_law_31 ?_
      obtain ⟨j, hj, ej⟩ := pk_andE (xs i) (m := 15) 4 (by decide)
      rw [ej]
      have kk : ∀ (u' v' : gU) (H : Heap) (locs : List Loc), LR u' v' → lWd D h d h' d' s H locs u' v' → W p l e room_1 s m #[Value.ref b] below meth c H locs cells slots (lw_Z below #[Value.ref b] s) (F0 m 493 ls []) := by
        intro u' v' H locs hR hw
        refine n_iinc4 (k := 0) (lv' := [(3, .int (nI (i + 4))), (2, .ref (h' 0)), (1, .ref (h 0)), (0, .ref b)]) S dL_law_493 hl rfl (by decide) rfl (fun ls hl => ?_)
        refine lv_goto (tgt := 18) S.1 S.2.1 dL_law_496 (by decide) ?_
        exact ih (i + 4) (by omega) (by omega) u' v' _ _ _ hR hw hl
      rcases (show j = 0 ∨ j = 1 ∨ j = 2 ∨ j = 3 ∨ j = 4 ∨ j = 5 ∨ j = 6 ∨ j = 7 ∨ j = 8 ∨ j = 9 ∨ j = 10 ∨ j = 11 ∨ j = 12 ∨ j = 13 ∨ j = 14 ∨ j = 15 by omega) with rfl | rfl | rfl | rfl | rfl | rfl | rfl | rfl | rfl | rfl | rfl | rfl | rfl | rfl | rfl | rfl
      · exact lv_tableIn (off := 76) (tgt := 108) S.1 S.2.1 dL_law_32 (by decide) (by decide) (by decide) (by decide) (law_c0 S hX hbl hL hcs hi4 hR hw hl kk)
      · exact lv_tableIn (off := 109) (tgt := 141) S.1 S.2.1 dL_law_32 (by decide) (by decide) (by decide) (by decide) (law_c1 S hX hbl hL hcs hi4 hR hw hl kk)
      · exact lv_tableIn (off := 152) (tgt := 184) S.1 S.2.1 dL_law_32 (by decide) (by decide) (by decide) (by decide) (law_c2 S hX hbl hL hcs hi4 hR hw hl kk)
      · exact lv_tableIn (off := 175) (tgt := 207) S.1 S.2.1 dL_law_32 (by decide) (by decide) (by decide) (by decide) (law_c3 S hX hbl hL hcs hi4 hR hw hl kk)
      · exact lv_tableIn (off := 198) (tgt := 230) S.1 S.2.1 dL_law_32 (by decide) (by decide) (by decide) (by decide) (law_c4 S hX hbl hL hcs hi4 hR hw hl kk)
      · exact lv_tableIn (off := 221) (tgt := 253) S.1 S.2.1 dL_law_32 (by decide) (by decide) (by decide) (by decide) (law_c5 S hX hbl hL hcs hi4 hR hw hl kk)
      · exact lv_tableIn (off := 234) (tgt := 266) S.1 S.2.1 dL_law_32 (by decide) (by decide) (by decide) (by decide) (law_c6 S hX hbl hL hcs hi4 hR hw hl kk)
      · exact lv_tableIn (off := 247) (tgt := 279) S.1 S.2.1 dL_law_32 (by decide) (by decide) (by decide) (by decide) (law_c7 S hX hbl hL hcs hi4 hR hw hl kk)
      · exact lv_tableIn (off := 270) (tgt := 302) S.1 S.2.1 dL_law_32 (by decide) (by decide) (by decide) (by decide) (law_c8 S hX hbl hL hcs hi4 hR hw hl kk)
      · exact lv_tableIn (off := 283) (tgt := 315) S.1 S.2.1 dL_law_32 (by decide) (by decide) (by decide) (by decide) (law_c9 S hX hbl hL hcs hi4 hR hw hl kk)
      · exact lv_tableIn (off := 316) (tgt := 348) S.1 S.2.1 dL_law_32 (by decide) (by decide) (by decide) (by decide) (law_c10 S hX hbl hL hcs hi4 hR hw hl kk)
      · exact lv_tableIn (off := 359) (tgt := 391) S.1 S.2.1 dL_law_32 (by decide) (by decide) (by decide) (by decide) (law_c11 S hX hbl hL hcs hi4 hR hw hl kk)
      · exact lv_tableIn (off := 402) (tgt := 434) S.1 S.2.1 dL_law_32 (by decide) (by decide) (by decide) (by decide) (law_c12 S hX hbl hL hcs hi4 hR hw hl kk)
      · exact lv_tableIn (off := 425) (tgt := 457) S.1 S.2.1 dL_law_32 (by decide) (by decide) (by decide) (by decide) (law_c13 S hX hbl hL hcs hi4 hR hw hl kk)
      · exact lv_tableIn (off := 448) (tgt := 480) S.1 S.2.1 dL_law_32 (by decide) (by decide) (by decide) (by decide) (law_c14 S hX hbl hL hcs hi4 hR hw hl kk)
      · exact lv_tableOut (tgt := 493) S.1 S.2.1 dL_law_32 (by decide) (by decide) (kk u v _ _ hR hw)
set_option maxHeartbeats 4000000 in
theorem whole_start {p : Program} {e : Env} {s : State} {m : MethodId} {below : List Frame} {meth : Method} {c : Code} (l : Launch) {b L : Nat} {xs : Nat → Int32} (hL : L ≤ 256) (C0 : lw_At p s m meth c b L xs) : W p l e room_1 s m #[Value.ref b] below meth c s.heap [] 0 0 (lw_Z below #[Value.ref b] s) (entryFrame m ([Value.ref b] : List Value).toArray 4) := by
  obtain ⟨hx, hb, hr, hml, hown, hts0, hX, hbl, hlocks, hgv⟩ := id C0
  have hts : ∀ w ∈ lw_all, w.before #[Value.ref b] s = true := fun w h => hts0 w (lw_all_tbl h)
  have S : CallFix p m c cL_law 4 s #[Value.ref b] lw_all "PhraseIndexLaw" := ⟨hx, hb, hml, hown, hts⟩
  have hA : ∀ q : Nat, s.heap.size ≤ q → (fun q : Nat => s.heap.size ≤ q) q := fun _ h => h
  obtain ⟨c0, iS0, hKn0⟩ := u_known (C := RX0) (T := TX0) (N := 11) (n := 11) hts0 (fun w h => lw_all_tbl (in_X0 w h)) (hts _ q22)
  obtain ⟨c1, iS1, hKn1⟩ := u_known (C := RX1) (T := TX1) (N := 7) (n := 7) hts0 (fun w h => lw_all_tbl (in_X1 w h)) (hts _ q189)
  obtain ⟨D, hKc⟩ : ∃ D : va_G, ∀ (k : Nat) (q : vw_C), vwCl[k]? = some q → u_Kn s q.1 q.2.1 q.2.2 (D.1 k) (D.2 k) := by
    refine ⟨(fun k => if k = 0 then c0 else c1, fun k => if k = 0 then iS0 else iS1), ?_⟩
    intro k q hq
    match k, hq with
    | 0, hq => cases hq; exact hKn0
    | 1, hq => cases hq; exact hKn1
    | k + 2, hq => simp [vwCl] at hq
  have hS : va_S (fun q : Nat => s.heap.size ≤ q) s.heap s.heap [] := va_S.rf
  have hK : va_K D vwCl [] s := ⟨hKc, fun k q h => by simp at h⟩
  have hP : va_P D vwCl [] s.heap := fun k q h => by simp at h
  have hD : va_D (fun q : Nat => s.heap.size ≤ q) [] := ⟨fun i j p q h => by simp at h, fun k q h => by simp at h⟩
  have hl := lv_entry ([.ref b]) (n := 4) (Nat.le_of_ble_eq_true rfl)
  rw [lg_entry_eq]
  generalize (lg_sl ([.ref b]) ++ List.replicate (4 - (lg_sl ([.ref b])).length) Slot.unset).toArray = ls at hl ⊢
  have hl : lv_has ls 4 [(0, .ref b)] := hl
  refine va_new (ci := 0) (fs := xN) (C := RX0) (T := TX0) (N := 11) hx hb hts in_X0 tyX0 tyX0_ok hown (hts _ q21) (hts _ q22) (hts _ q19) hK hP hD hS hA rfl (fun j hj => by rcases (show j = 0 ∨ j = 1 ∨ j = 2 ∨ j = 3 ∨ j = 4 ∨ j = 5 ∨ j = 6 ∨ j = 7 ∨ j = 8 ∨ j = 9 ∨ j = 10 by omega) with rfl | rfl | rfl | rfl | rfl | rfl | rfl | rfl | rfl | rfl | rfl <;> rfl) (Nat.le_of_ble_eq_true rfl) (Nat.le_of_ble_eq_true rfl) dL_law_0 (fun q0 H hP hD hS => ?_)
  have hP : va_P D vwCl [(q0, .inr (0, xN))] H := hP
  have hD : va_D (fun q : Nat => s.heap.size ≤ q) [(q0, .inr (0, xN))] := hD
  refine W.widen (k := 1) (n := 11) (Nat.le_of_ble_eq_true rfl) (Nat.le_of_ble_eq_true rfl) ?_
  refine lv_dup hx hb dL_law_3 rfl ?_
  have hPc := hP.sub (ws' := [(q0, .inr (0, xN))]) [0] rfl
  have hDc := hD.sub (ws' := [(q0, .inr (0, xN))]) [0] (by decide) rfl
  have hKd := hK.sub (tys' := []) [] rfl
  have hFc := va_free (wc := [(q0, .inr (0, xN))]) hD hS hA [0] rfl
  refine va_callv (va_runI (As := []) (rest := [.ref q0]) S (iX_init l D q0 H.size) (cwI 0 hts (lw_meth q25) rfl rfl rfl (hts _ q19) (hts _ q23) (hts _ q24) rfl (by decide +kernel) ⟨Nat.le_of_ble_eq_true rfl, Nat.le_of_ble_eq_true rfl⟩) ⟨fun a U g mk q => by obtain ⟨q0, q1, qP, qK, qD⟩ := q; exact ⟨q0, q1, qP, va_K.moved (u := U) (U := U.calling g mk a) (Vm.Alike.refl U.vm) qK, qD⟩, fun U hU hW => ⟨rfl, by rw [hU], by rw [hU]; exact hPc, va_K.moved hW.alike hKd, hDc.weaken (fun _ _ _ _ => trivial)⟩⟩ rfl rfl hl.1 rfl (lv_room (Nat.le_of_ble_eq_true rfl)) dL_law_4 ⟨Nat.le_of_ble_eq_true rfl, Nat.le_of_ble_eq_true rfl⟩) hS (fun q _ h => hFc q h) hFc (fun w0 t H1 locs ht hvm hw1 hB hz1 hk1 hS => ?_)
  obtain ⟨h, d⟩ := w0
  have hw1 : h 0 = q0 := hw1
  subst hw1
  obtain ⟨hP1, hK1, hD1⟩ := hB
  rw [ht] at hP1
  have hK1 := va_K.moved hvm.symm hK1
  obtain ⟨hP, hD⟩ := va_join (wr := []) (w1 := xL h d (fun _ _ => 0)) hP hD [0] [] rfl rfl (by decide) (by decide) hk1 hFc hP1 hD1
  have hK := hK.app hK1
  generalize H1 = H at hP hS ⊢
  refine W.widen (k := 10) (n := 585) (Nat.le_of_ble_eq_true rfl) (Nat.le_of_ble_eq_true rfl) ?_
  refine lv_astore_n (lv' := [(1, .ref (h 0)), (0, .ref b)]) hx hb dL_law_7 rfl hl (by decide) rfl (fun ls hl => ?_)
  have hP : va_P D vwCl (xL h d (fun _ _ => 0)) H := hP
  have hD : va_D (fun q : Nat => s.heap.size ≤ q) (xL h d (fun _ _ => 0)) := hD
  have hK : va_K D vwCl (xT d) s := hK
  refine va_new (ci := 1) (fs := mN) (C := RX1) (T := TX1) (N := 7) hx hb hts in_X1 tyX1 tyX1_ok hown (hts _ q188) (hts _ q189) (hts _ q20) hK hP hD hS hA rfl (fun j hj => by rcases (show j = 0 ∨ j = 1 ∨ j = 2 ∨ j = 3 ∨ j = 4 ∨ j = 5 ∨ j = 6 by omega) with rfl | rfl | rfl | rfl | rfl | rfl | rfl <;> rfl) (Nat.le_of_ble_eq_true rfl) (Nat.le_of_ble_eq_true rfl) dL_law_8 (fun q1 H hP hD hS => ?_)
  have hP : va_P D vwCl (xL h d (fun _ _ => 0) ++ [(q1, .inr (1, mN))]) H := hP
  have hD : va_D (fun q : Nat => s.heap.size ≤ q) (xL h d (fun _ _ => 0) ++ [(q1, .inr (1, mN))]) := hD
  refine W.widen (k := 11) (n := 592) (Nat.le_of_ble_eq_true rfl) (Nat.le_of_ble_eq_true rfl) ?_
  refine lv_dup hx hb dL_law_11 rfl ?_
  have hPc := hP.sub (ws' := [(q1, .inr (1, mN))]) [10] rfl
  have hDc := hD.sub (ws' := [(q1, .inr (1, mN))]) [10] (by decide) rfl
  have hKd := hK.sub (tys' := []) [] rfl
  have hFc := va_free (wc := [(q1, .inr (1, mN))]) hD hS hA [10] rfl
  refine va_callv (va_runI (As := []) (rest := [.ref q1]) S (iM_init l D q1 H.size) (cwI 0 hts (lw_meth q192) rfl rfl rfl (hts _ q20) (hts _ q190) (hts _ q191) rfl (by decide +kernel) ⟨Nat.le_of_ble_eq_true rfl, Nat.le_of_ble_eq_true rfl⟩) ⟨fun a U g mk q => by obtain ⟨q0, q1, qP, qK, qD⟩ := q; exact ⟨q0, q1, qP, va_K.moved (u := U) (U := U.calling g mk a) (Vm.Alike.refl U.vm) qK, qD⟩, fun U hU hW => ⟨rfl, by rw [hU], by rw [hU]; exact hPc, va_K.moved hW.alike hKd, hDc.weaken (fun _ _ _ _ => trivial)⟩⟩ rfl rfl hl.1 rfl (lv_room (Nat.le_of_ble_eq_true rfl)) dL_law_12 ⟨Nat.le_of_ble_eq_true rfl, Nat.le_of_ble_eq_true rfl⟩) hS (fun q _ h => hFc q h) hFc (fun w1 t H1 locs ht hvm hw1 hB hz1 hk1 hS => ?_)
  obtain ⟨h', d'⟩ := w1
  have hw1 : h' 0 = q1 := hw1
  subst hw1
  obtain ⟨hP1, hK1, hD1⟩ := hB
  rw [ht] at hP1
  have hK1 := va_K.moved hvm.symm hK1
  obtain ⟨hP, hD⟩ := va_join (wr := xL h d (fun _ _ => 0)) (w1 := mL h' d' (fun _ _ => 0)) hP hD [10] [0, 1, 2, 3, 4, 5, 6, 7, 8, 9] rfl rfl (by decide) (by decide) hk1 hFc hP1 hD1
  have hK := hK.app hK1
  generalize H1 = H at hP hS ⊢
  refine W.widen (k := 17) (n := 1079) (Nat.le_of_ble_eq_true rfl) (Nat.le_of_ble_eq_true rfl) ?_
  refine lv_astore_n (lv' := [(2, .ref (h' 0)), (1, .ref (h 0)), (0, .ref b)]) hx hb dL_law_15 rfl hl (by decide) rfl (fun ls hl => ?_)
  refine lv_iconst (v := nI 0) hx hb dL_law_16 (by decide) ?_
  refine lv_istore_n (lv' := [(3, .int (nI 0)), (2, .ref (h' 0)), (1, .ref (h 0)), (0, .ref b)]) hx hb dL_law_17 rfl hl (by decide) rfl (fun ls hl => ?_)
  exact law_loop S hX hbl hL hr hlocks ⟨Nat.le_of_ble_eq_true rfl, Nat.le_of_ble_eq_true rfl⟩ (L + 5) 0 (Nat.zero_le _) (by omega) (fun _ _ => 0) (fun _ _ => 0) _ _ _ LR_0 ⟨hK, hP, hD, hS⟩ hl
end
section
set_option maxRecDepth 100000
set_option maxHeartbeats 4000000 in
theorem lw_walk (l : Launch) (b : Addr) (xs : List Int32) : MetFree l x (headSpec (Jvm.Cond.code x code maxLocals ret :: tables_1) room_1) (lw_P b xs) (fun _ _ _ _ _ => True) lw_Q := by
  refine MetFree.of_bodyS (code := code) (maxLocals := maxLocals) (ret := ret) (by decide) ?_ ?_
  · intro args s m h hn
    obtain ⟨meth, c, h1, h2, h3, h4, h5, h6, -, -⟩ := Cond.code_spec hn (atoms_spec (ws := Jvm.Cond.code x code maxLocals ret :: tables_1) h _ List.mem_cons_self)
    exact ⟨meth, c, h1, h2, h3, h4, h5, h6⟩
  · intro p e s m args below meth c s₁ B hml0 hP _
    obtain ⟨rfl, hx, hbd, hgv⟩ := hP
    obtain ⟨scr, harrAt, hlist, hof, hsmall⟩ := hx
    obtain ⟨hcb, hkn, -, -⟩ := State.arrayAt?_spec harrAt
    have hown : s.vm.findClass R_law = some m.cls := findClass_of_methodNamed B.named
    have hts0 : ∀ c ∈ (Jvm.Cond.code x code maxLocals ret :: tables_1), c.before #[Value.ref b] s = true := atoms_spec (ws := Jvm.Cond.code x code maxLocals ret :: tables_1) B.pre
    have hts : ∀ w ∈ lw_tbl, w.before #[Value.ref b] s = true := k2_hts_sels lw_privs (fun w hw => hts0 w (List.mem_cons_of_mem _ hw)) lw_privs_ok
    have hml : c.maxLocals = 4 := B.maxLocals_eq (hts0 _ List.mem_cons_self)
    have X₀ : Stand p l e room_1 s m #[Value.ref b] below meth c s₁ [] 0 0 := Stand.of_body B
    have hh0 : s₁.heap = s.heap := by rw [B.state]; rfl
    have hsz : scr.slots.size = xs.length := by rw [← Array.length_toList, hlist, List.length_map]
    have hval : ∀ j : Nat, j < xs.length → scr.slots[j]? = some (.int (xs.getD j 0)) := fun j hj => by
      rw [← Array.getElem?_toList, hlist]
      simp [hj]
    have hbl : b < s.heap.size := (Array.getElem?_eq_some_iff.mp hcb).1
    have hX : va_X b xs.length (fun j => xs.getD j 0) s s.heap := ⟨scr, hcb, hof, hkn, hsz, hval⟩
    have K : W p l e room_1 s m #[Value.ref b] below meth c s₁.heap [] 0 0 (lw_Z below #[Value.ref b] s) (entryFrame m ([Value.ref b] : List Value).toArray 4) := by
      rw [hh0]
      exact whole_start l hbd ⟨B.exec, B.bytes, B.returns, hml, hown, hts, hX, hbl, B.notSynchronized, hgv⟩
    obtain ⟨t, a1, o, b1, b2, b3⟩ := K s₁ rfl X₀
    exact ⟨t, o, a1, b1, b2, b3⟩
theorem lw_pre_spec {args : Array Value} {s : State} (h : (Jvm.Cond.and given_1 narrow_1).before args s = true) (hr : rest_1_c.before args s = true) : ∃ (b : Addr) (xs : List Int32), lw_P b xs args s := by
  have hs := flat_of_before _ h
  have hq := flat_of_before _ hr
  have hc : (Cond.count 1).before args s = true := hs _ (by decide +kernel)
  have harr : (Cond.arrayOf (.arg 0) .int).before args s = true := hs _ (by decide +kernel)
  have hle : (Cond.le (.length (.arg 0)) (.int 256)).before args s = true := hs _ (by decide +kernel)
  have hlen : (Cond.isInt (.length (.arg 0))).before args s = true := hq _ (by decide +kernel)
  have hall : (Cond.all (.arg 0) (.isInt (.elem (.arg 0) (.index 0)))).before args s = true := hq _ (by decide +kernel)
  obtain ⟨b, xs, hb, hx⟩ := State.ints_of_pre rfl harr hlen hall
  have hsm : xs.length < 2 ^ 31 := hx.choose_spec.2.2.2
  have hev : (Term.length (.arg 0)).eval args s none [] s = some (.int xs.length.toInt32) := hx.length_eval hb
  have hv := Cond.le_ints hev (show (Term.int 256).eval args s none [] s = some (.int 256) from rfl)
  have hd : xs.length.toInt32 ≤ 256 := by
    simpa [Cond.before, Cond.holds, hv] using hle
  have hN : xs.length ≤ 256 := (Int32.ofNat_le_ofNat hsm (by decide)).mp (show Int32.ofNat xs.length ≤ Int32.ofNat 256 from hd)
  exact ⟨b, xs, Cond.one_arg hc (show args[0]? = some (.ref b) from hb), hx, hN, h⟩
theorem lw_comes (l : Launch) : Comes l x (Jvm.Cond.code x code maxLocals ret :: tables_1) room_1 (fun tb e args s => Calls_1 tb e args s ∧ rest_1 tb e args s ∧ Pre_1 tb e args s)
    (fun _ _ args s o t => lw_Q args s o t) := by
  intro p e ha hc hk s m args below hf hfit hheap happ hpre
  obtain ⟨b, xs, hP⟩ := lw_pre_spec hpre.2.2 hpre.2.1
  obtain ⟨k, o, h1, h2, h3, hQ⟩ := lw_walk l b xs p e ha hc hk s m args below hf ((Spec.applies_iff_loose hf).mp happ).1 hP trivial
  exact ⟨k, o, h1, h2, h3, hQ⟩
theorem lw_frame {s t : State} {o : Outcome} {args : Array Value} (h : Framed s o t [] 600000 7290000) :
    Framed s o t (fieldLocs frame_1_writes args s ++ arrayLocs frame_1_arrays args s ++ staticLocs frame_1_statics s) 600000 7290000 := h
theorem lw_limb (L : Cond) (hL : ∀ (args : Array Value) (s t : State), L.after args s (.returned (some (.int 1))) t = true) :
    ArmFor flags0 classFile x code maxLocals ret World_1 tables_1 room_1 Calls_1 rest_1 Pre_1
      (fun tb e a s o t => postC L tb e a s o t ∧ Framed s o t (fieldLocs frame_1_writes a s ++ arrayLocs frame_1_arrays a s ++ staticLocs frame_1_statics s) 600000 7290000) := by
  intro l _ _ _ p e ha hc hk s m args below hf hfit hheap happ hpre
  obtain ⟨k, o, h1, h2, h3, rfl, hF⟩ := lw_comes l p e ha hc hk s m args below hf hfit hheap happ hpre
  exact ⟨k, _, h1, h2, h3, hL args s _, lw_frame hF⟩
theorem i_vc : Claimed_1_1 ∧ Claimed_1_2 := ⟨lw_limb limb_1_1 (fun args s t => by simp [limb_1_1, Cond.after, Cond.holds, Cond.value]), lw_limb limb_1_2 (fun args s t => Cond.after_iff.mpr (by
  first | (rw [show limb_1_2 = Cond.eq .result (.int 1) from rfl, Cond.eq_ints (x := 1) (y := 1) rfl rfl]; simp; done) | (simp [limb_1_2, Cond.value, Term.eval]; done)))⟩
end
